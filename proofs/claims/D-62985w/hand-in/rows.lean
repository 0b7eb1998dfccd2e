section
-- ===== PART A: goes FIRST, ahead of the names: the tables' words, and 'selects' of the private methods out of them =====
/-- a private method of a class that the tables say can be made, by its rows of tables_1 -/
def lw_okq (q : MethodName × Nat) : Prop := (q.1.cls ≠ "java/lang/invoke/MethodHandle" ∧ q.1.cls ≠ "java/lang/invoke/VarHandle") ∧ Cond.instantiable q.1.cls q.2 ∈ tables_1 ∧ Cond.privateMethod q.1 ∈ tables_1 ∧ Cond.instanceMethod q.1 ∈ tables_1
set_option maxRecDepth 100000
theorem lw_t1 {w : Cond} (h : w ∈ tables_1_1) : w ∈ tables_1 := List.mem_append_left _ h
theorem lw_t2 {w : Cond} (h : w ∈ tables_1_2) : w ∈ tables_1 := List.mem_append_right _ h
theorem lw_p0 : lw_okq (⟨"HiddenCaches", "read", "(I)I"⟩, 11) := ⟨⟨by decide +kernel, by decide +kernel⟩, lw_t1 (List.mem_of_getElem? (i := 4) rfl), lw_t1 (List.mem_of_getElem? (i := 55) rfl), lw_t1 (List.mem_of_getElem? (i := 56) rfl)⟩
theorem lw_p1 : lw_okq (⟨"HiddenCaches", "placeOf", "(I)I"⟩, 11) := ⟨⟨by decide +kernel, by decide +kernel⟩, lw_t1 (List.mem_of_getElem? (i := 4) rfl), lw_t1 (List.mem_of_getElem? (i := 59) rfl), lw_t1 (List.mem_of_getElem? (i := 60) rfl)⟩
theorem lw_p2 : lw_okq (⟨"HiddenCaches", "bring", "(I)I"⟩, 11) := ⟨⟨by decide +kernel, by decide +kernel⟩, lw_t1 (List.mem_of_getElem? (i := 4) rfl), lw_t1 (List.mem_of_getElem? (i := 63) rfl), lw_t1 (List.mem_of_getElem? (i := 64) rfl)⟩
theorem lw_p3 : lw_okq (⟨"HiddenCaches", "firstPlace", "(I)I"⟩, 11) := ⟨⟨by decide +kernel, by decide +kernel⟩, lw_t1 (List.mem_of_getElem? (i := 4) rfl), lw_t1 (List.mem_of_getElem? (i := 67) rfl), lw_t1 (List.mem_of_getElem? (i := 68) rfl)⟩
theorem lw_p4 : lw_okq (⟨"HiddenCaches", "among", "(II)I"⟩, 11) := ⟨⟨by decide +kernel, by decide +kernel⟩, lw_t1 (List.mem_of_getElem? (i := 4) rfl), lw_t1 (List.mem_of_getElem? (i := 71) rfl), lw_t1 (List.mem_of_getElem? (i := 72) rfl)⟩
theorem lw_p5 : lw_okq (⟨"HiddenCaches", "touch", "(I)V"⟩, 11) := ⟨⟨by decide +kernel, by decide +kernel⟩, lw_t1 (List.mem_of_getElem? (i := 4) rfl), lw_t1 (List.mem_of_getElem? (i := 75) rfl), lw_t1 (List.mem_of_getElem? (i := 76) rfl)⟩
theorem lw_p6 : lw_okq (⟨"HiddenCaches", "makeRoom", "(I)I"⟩, 11) := ⟨⟨by decide +kernel, by decide +kernel⟩, lw_t1 (List.mem_of_getElem? (i := 4) rfl), lw_t1 (List.mem_of_getElem? (i := 79) rfl), lw_t1 (List.mem_of_getElem? (i := 80) rfl)⟩
theorem lw_p7 : lw_okq (⟨"HiddenCaches", "older", "(I)I"⟩, 11) := ⟨⟨by decide +kernel, by decide +kernel⟩, lw_t1 (List.mem_of_getElem? (i := 4) rfl), lw_t1 (List.mem_of_getElem? (i := 83) rfl), lw_t1 (List.mem_of_getElem? (i := 84) rfl)⟩
theorem lw_p8 : lw_okq (⟨"HiddenCaches", "sinkToBuffer", "(I)V"⟩, 11) := ⟨⟨by decide +kernel, by decide +kernel⟩, lw_t1 (List.mem_of_getElem? (i := 4) rfl), lw_t1 (List.mem_of_getElem? (i := 87) rfl), lw_t1 (List.mem_of_getElem? (i := 88) rfl)⟩
theorem lw_p9 : lw_okq (⟨"HiddenCaches", "sinkToSecond", "(I)V"⟩, 11) := ⟨⟨by decide +kernel, by decide +kernel⟩, lw_t1 (List.mem_of_getElem? (i := 4) rfl), lw_t1 (List.mem_of_getElem? (i := 91) rfl), lw_t1 (List.mem_of_getElem? (i := 92) rfl)⟩
theorem lw_p10 : lw_okq (⟨"HiddenCaches", "secondPlace", "(I)I"⟩, 11) := ⟨⟨by decide +kernel, by decide +kernel⟩, lw_t1 (List.mem_of_getElem? (i := 4) rfl), lw_t1 (List.mem_of_getElem? (i := 95) rfl), lw_t1 (List.mem_of_getElem? (i := 96) rfl)⟩
theorem lw_p11 : lw_okq (⟨"HiddenCaches", "writeBack", "(I)V"⟩, 11) := ⟨⟨by decide +kernel, by decide +kernel⟩, lw_t1 (List.mem_of_getElem? (i := 4) rfl), lw_t1 (List.mem_of_getElem? (i := 99) rfl), lw_t1 (List.mem_of_getElem? (i := 100) rfl)⟩
theorem lw_p12 : lw_okq (⟨"HiddenCaches", "moveLine", "(II)V"⟩, 11) := ⟨⟨by decide +kernel, by decide +kernel⟩, lw_t1 (List.mem_of_getElem? (i := 4) rfl), lw_t1 (List.mem_of_getElem? (i := 103) rfl), lw_t1 (List.mem_of_getElem? (i := 104) rfl)⟩
theorem lw_p13 : lw_okq (⟨"HiddenCaches", "lowerPlace", "(I)I"⟩, 11) := ⟨⟨by decide +kernel, by decide +kernel⟩, lw_t1 (List.mem_of_getElem? (i := 4) rfl), lw_t1 (List.mem_of_getElem? (i := 107) rfl), lw_t1 (List.mem_of_getElem? (i := 108) rfl)⟩
theorem lw_p14 : lw_okq (⟨"HiddenCaches", "readIn", "(II)V"⟩, 11) := ⟨⟨by decide +kernel, by decide +kernel⟩, lw_t1 (List.mem_of_getElem? (i := 4) rfl), lw_t1 (List.mem_of_getElem? (i := 111) rfl), lw_t1 (List.mem_of_getElem? (i := 112) rfl)⟩
theorem lw_p15 : lw_okq (⟨"HiddenCaches", "fetchAhead", "(I)V"⟩, 11) := ⟨⟨by decide +kernel, by decide +kernel⟩, lw_t1 (List.mem_of_getElem? (i := 4) rfl), lw_t1 (List.mem_of_getElem? (i := 115) rfl), lw_t1 (List.mem_of_getElem? (i := 116) rfl)⟩
def lw_privs_1 : List (MethodName × Nat) := [(⟨"HiddenCaches", "read", "(I)I"⟩, 11), (⟨"HiddenCaches", "placeOf", "(I)I"⟩, 11), (⟨"HiddenCaches", "bring", "(I)I"⟩, 11), (⟨"HiddenCaches", "firstPlace", "(I)I"⟩, 11), (⟨"HiddenCaches", "among", "(II)I"⟩, 11), (⟨"HiddenCaches", "touch", "(I)V"⟩, 11), (⟨"HiddenCaches", "makeRoom", "(I)I"⟩, 11), (⟨"HiddenCaches", "older", "(I)I"⟩, 11), (⟨"HiddenCaches", "sinkToBuffer", "(I)V"⟩, 11), (⟨"HiddenCaches", "sinkToSecond", "(I)V"⟩, 11), (⟨"HiddenCaches", "secondPlace", "(I)I"⟩, 11), (⟨"HiddenCaches", "writeBack", "(I)V"⟩, 11), (⟨"HiddenCaches", "moveLine", "(II)V"⟩, 11), (⟨"HiddenCaches", "lowerPlace", "(I)I"⟩, 11), (⟨"HiddenCaches", "readIn", "(II)V"⟩, 11), (⟨"HiddenCaches", "fetchAhead", "(I)V"⟩, 11)]
theorem lw_r1 : ∀ q ∈ lw_privs_1, lw_okq q := List.forall_mem_cons.mpr ⟨lw_p0, List.forall_mem_cons.mpr ⟨lw_p1, List.forall_mem_cons.mpr ⟨lw_p2, List.forall_mem_cons.mpr ⟨lw_p3, List.forall_mem_cons.mpr ⟨lw_p4, List.forall_mem_cons.mpr ⟨lw_p5, List.forall_mem_cons.mpr ⟨lw_p6, List.forall_mem_cons.mpr ⟨lw_p7, List.forall_mem_cons.mpr ⟨lw_p8, List.forall_mem_cons.mpr ⟨lw_p9, List.forall_mem_cons.mpr ⟨lw_p10, List.forall_mem_cons.mpr ⟨lw_p11, List.forall_mem_cons.mpr ⟨lw_p12, List.forall_mem_cons.mpr ⟨lw_p13, List.forall_mem_cons.mpr ⟨lw_p14, List.forall_mem_cons.mpr ⟨lw_p15, fun _ h => absurd h List.not_mem_nil⟩⟩⟩⟩⟩⟩⟩⟩⟩⟩⟩⟩⟩⟩⟩⟩
theorem lw_p16 : lw_okq (⟨"HiddenCaches", "write", "(II)V"⟩, 11) := ⟨⟨by decide +kernel, by decide +kernel⟩, lw_t1 (List.mem_of_getElem? (i := 4) rfl), lw_t1 (List.mem_of_getElem? (i := 123) rfl), lw_t1 (List.mem_of_getElem? (i := 124) rfl)⟩
theorem lw_p17 : lw_okq (⟨"HiddenCaches", "deviceWord", "(I)I"⟩, 11) := ⟨⟨by decide +kernel, by decide +kernel⟩, lw_t1 (List.mem_of_getElem? (i := 4) rfl), lw_t1 (List.mem_of_getElem? (i := 159) rfl), lw_t1 (List.mem_of_getElem? (i := 160) rfl)⟩
theorem lw_p18 : lw_okq (⟨"HiddenCaches", "anyPlace", "(I)I"⟩, 11) := ⟨⟨by decide +kernel, by decide +kernel⟩, lw_t1 (List.mem_of_getElem? (i := 4) rfl), lw_t1 (List.mem_of_getElem? (i := 163) rfl), lw_t1 (List.mem_of_getElem? (i := 164) rfl)⟩
theorem lw_p19 : lw_okq (⟨"HiddenCaches", "devicePut", "(II)V"⟩, 11) := ⟨⟨by decide +kernel, by decide +kernel⟩, lw_t1 (List.mem_of_getElem? (i := 4) rfl), lw_t1 (List.mem_of_getElem? (i := 171) rfl), lw_t1 (List.mem_of_getElem? (i := 172) rfl)⟩
theorem lw_p20 : lw_okq (⟨"HiddenCaches", "empty", "(I)V"⟩, 11) := ⟨⟨by decide +kernel, by decide +kernel⟩, lw_t1 (List.mem_of_getElem? (i := 4) rfl), lw_t1 (List.mem_of_getElem? (i := 183) rfl), lw_t1 (List.mem_of_getElem? (i := 184) rfl)⟩
theorem lw_p21 : lw_okq (⟨"HiddenCachesModel", "isWord", "(I)Z"⟩, 2) := ⟨⟨by decide +kernel, by decide +kernel⟩, lw_t1 (List.mem_of_getElem? (i := 198) rfl), lw_t1 (List.mem_of_getElem? (i := 215) rfl), lw_t1 (List.mem_of_getElem? (i := 216) rfl)⟩
theorem lw_p22 : lw_okq (⟨"HiddenCachesModel", "write", "(II)V"⟩, 2) := ⟨⟨by decide +kernel, by decide +kernel⟩, lw_t1 (List.mem_of_getElem? (i := 198) rfl), lw_t1 (List.mem_of_getElem? (i := 223) rfl), lw_t1 (List.mem_of_getElem? (i := 224) rfl)⟩
theorem lw_p23 : lw_okq (⟨"HiddenCachesModel", "isByte", "(I)Z"⟩, 2) := ⟨⟨by decide +kernel, by decide +kernel⟩, lw_t1 (List.mem_of_getElem? (i := 198) rfl), lw_t1 (List.mem_of_getElem? (i := 231) rfl), lw_t1 (List.mem_of_getElem? (i := 232) rfl)⟩
def lw_privs_2 : List (MethodName × Nat) := [(⟨"HiddenCaches", "write", "(II)V"⟩, 11), (⟨"HiddenCaches", "deviceWord", "(I)I"⟩, 11), (⟨"HiddenCaches", "anyPlace", "(I)I"⟩, 11), (⟨"HiddenCaches", "devicePut", "(II)V"⟩, 11), (⟨"HiddenCaches", "empty", "(I)V"⟩, 11), (⟨"HiddenCachesModel", "isWord", "(I)Z"⟩, 2), (⟨"HiddenCachesModel", "write", "(II)V"⟩, 2), (⟨"HiddenCachesModel", "isByte", "(I)Z"⟩, 2)]
theorem lw_r2 : ∀ q ∈ lw_privs_2, lw_okq q := List.forall_mem_cons.mpr ⟨lw_p16, List.forall_mem_cons.mpr ⟨lw_p17, List.forall_mem_cons.mpr ⟨lw_p18, List.forall_mem_cons.mpr ⟨lw_p19, List.forall_mem_cons.mpr ⟨lw_p20, List.forall_mem_cons.mpr ⟨lw_p21, List.forall_mem_cons.mpr ⟨lw_p22, List.forall_mem_cons.mpr ⟨lw_p23, fun _ h => absurd h List.not_mem_nil⟩⟩⟩⟩⟩⟩⟩⟩
def lw_privs : List (MethodName × Nat) := lw_privs_1 ++ (lw_privs_2)
def lw_tbl : List Cond := k2_sels lw_privs ++ tables_1
theorem lw_privs_ok : ∀ q ∈ lw_privs, lw_okq q := by
  show ∀ q ∈ lw_privs_1 ++ (lw_privs_2), lw_okq q
  exact List.forall_mem_append.mpr ⟨lw_r1, lw_r2⟩
-- ===== ONE list of words for every method: the tables' words that hold all through a run =====
def lw_all : List Cond := lw_tbl.filter goodWord
/-- a word of the tables by its place: claim/WORDS.tsv -/
theorem lw_w {w : Cond} (i : Nat) (h : lw_tbl[i]? = some w) (g : goodWord w = true) : w ∈ lw_all := List.mem_filter.mpr ⟨List.mem_of_getElem? h, g⟩
theorem lw_all_tbl {w : Cond} (h : w ∈ lw_all) : w ∈ lw_tbl := (List.mem_filter.mp h).1
theorem lw_self : GoodIn lw_all lw_all := fun w h => ⟨h, good_of_word (List.mem_filter.mp h).2⟩
/-- a class's field words, by their places -/
theorem lw_in (ws : List Cond) (ps : List Nat) (hp : ws = ps.filterMap (fun i => lw_tbl[i]?)) (hg : ws.all goodWord = true) : ∀ w ∈ ws, w ∈ lw_all := by
  intro w h
  have h1 := List.all_eq_true.mp hg w h
  rw [hp] at h
  obtain ⟨i, -, hi⟩ := List.mem_filterMap.mp h
  exact lw_w i hi h1
/-- the words of a contract for the method y with code b, L locals, answer r -/
abbrev ws_ (y : MethodName) (b : ByteArray) (L : Nat) (r : Option FieldType) : List Cond := Cond.code y b L r :: lw_all
theorem lw_meth {y : MethodName} {b : ByteArray} {L : Nat} {r : Option FieldType} (h : Cond.code y b L r ∈ lw_all) : GoodIn lw_all (ws_ y b L r) := by
  intro w hw
  rcases List.mem_cons.mp hw with e | e
  · rw [e]
    exact lw_self _ h
  · exact lw_self _ e
theorem lw_app {a c : List Cond} (ha : ∀ w ∈ a, w ∈ lw_all) (hc : GoodIn lw_all c) : GoodIn lw_all (a ++ c) := by
  intro w hw
  rcases List.mem_append.mp hw with e | e
  · exact lw_self w (ha w e)
  · exact hc w e
/-- what a call through an object asks: cwV n hts (lw_V ..) -/
theorem lw_V {own : String} {idx : Nat} {C : String} {y : MethodName} {b : ByteArray} {L : Nat} {r : Option FieldType} (h1 : Cond.methodLink own idx y ∈ lw_all) (h2 : Cond.instanceMethod y ∈ lw_all) (h3 : Cond.selects C y y ∈ lw_all) (h4 : Cond.initialized C ∈ lw_all) (h5 : Cond.code y b L r ∈ lw_all) : GoodIn lw_all (wsV own idx C y (ws_ y b L r)) := by
  refine lw_app ?_ (lw_meth h5)
  intro w hw
  simp only [List.mem_cons, List.not_mem_nil, or_false] at hw
  rcases hw with e | e | e | e
  · rw [e]; exact h1
  · rw [e]; exact h2
  · rw [e]; exact h3
  · rw [e]; exact h4
/-- what a static call asks: va_cwS n hts (lw_S ..) -/
theorem lw_S {own : String} {idx : Nat} {y : MethodName} {b : ByteArray} {L : Nat} {r : Option FieldType} (h1 : Cond.methodLink own idx y ∈ lw_all) (h2 : Cond.static y ∈ lw_all) (h3 : Cond.initialized y.cls ∈ lw_all) (h4 : Cond.code y b L r ∈ lw_all) : GoodIn lw_all (va_wsS own idx y (ws_ y b L r)) := by
  refine lw_app ?_ (lw_meth h4)
  intro w hw
  simp only [List.mem_cons, List.not_mem_nil, or_false] at hw
  rcases hw with e | e | e
  · rw [e]; exact h1
  · rw [e]; exact h2
  · rw [e]; exact h3
/-- the words of a contract for a method WITH HANDLERS (hh: its table) -/
abbrev wsW_ (y : MethodName) (b : ByteArray) (L : Nat) (r : Option FieldType) (hh : List (Nat × Nat × Nat × Nat)) : List Cond := Cond.codeWith y b L r hh :: lw_all
theorem lw_methW {y : MethodName} {b : ByteArray} {L : Nat} {r : Option FieldType} {hh : List (Nat × Nat × Nat × Nat)} (h : Cond.codeWith y b L r hh ∈ lw_all) : GoodIn lw_all (wsW_ y b L r hh) := by
  intro w hw
  rcases List.mem_cons.mp hw with e | e
  · rw [e]
    exact lw_self _ h
  · exact lw_self _ e
/-- any list of words by their places (lw_in), good -/
theorem lw_good {ws : List Cond} (h : ∀ w ∈ ws, w ∈ lw_all) : GoodIn lw_all ws := fun w hw => lw_self w (h w hw)
/-- what a call of a method with handlers asks: vx_cwVW n hts (lw_VW ..), vx_cwSW n hts (lw_SW ..) -/
theorem lw_VW {own : String} {idx : Nat} {C : String} {y : MethodName} {b : ByteArray} {L : Nat} {r : Option FieldType} {hh : List (Nat × Nat × Nat × Nat)} (h1 : Cond.methodLink own idx y ∈ lw_all) (h2 : Cond.instanceMethod y ∈ lw_all) (h3 : Cond.selects C y y ∈ lw_all) (h4 : Cond.initialized C ∈ lw_all) (h5 : Cond.codeWith y b L r hh ∈ lw_all) : GoodIn lw_all (wsV own idx C y (wsW_ y b L r hh)) := by
  refine lw_app ?_ (lw_methW h5)
  intro w hw
  simp only [List.mem_cons, List.not_mem_nil, or_false] at hw
  rcases hw with e | e | e | e
  · rw [e]; exact h1
  · rw [e]; exact h2
  · rw [e]; exact h3
  · rw [e]; exact h4
theorem lw_SW {own : String} {idx : Nat} {y : MethodName} {b : ByteArray} {L : Nat} {r : Option FieldType} {hh : List (Nat × Nat × Nat × Nat)} (h1 : Cond.methodLink own idx y ∈ lw_all) (h2 : Cond.static y ∈ lw_all) (h3 : Cond.initialized y.cls ∈ lw_all) (h4 : Cond.codeWith y b L r hh ∈ lw_all) : GoodIn lw_all (va_wsS own idx y (wsW_ y b L r hh)) := by
  refine lw_app ?_ (lw_methW h4)
  intro w hw
  simp only [List.mem_cons, List.not_mem_nil, or_false] at hw
  rcases hw with e | e | e
  · rw [e]; exact h1
  · rw [e]; exact h2
  · rw [e]; exact h3
/-- a word by its place in its run of the tables -/
theorem lw_at {r : List Cond} (hr : ∀ w ∈ r, w ∈ lw_tbl) {w : Cond} (i : Nat) (h : r[i]? = some w) : w ∈ lw_tbl := hr w (List.mem_of_getElem? h)
theorem lw_g {w : Cond} (h : w ∈ lw_tbl) (g : goodWord w = true) : w ∈ lw_all := List.mem_filter.mpr ⟨h, g⟩
theorem lw_ms : ∀ w ∈ k2_sels lw_privs, w ∈ lw_tbl := fun w h => show w ∈ k2_sels lw_privs ++ tables_1 from List.mem_append_left _ h
theorem lw_m1 : ∀ w ∈ tables_1_1, w ∈ lw_tbl := fun w h => show w ∈ k2_sels lw_privs ++ tables_1 from List.mem_append_right (k2_sels lw_privs) (show w ∈ tables_1 from List.mem_append_left _ h)
theorem lw_m2 : ∀ w ∈ tables_1_2, w ∈ lw_tbl := fun w h => show w ∈ k2_sels lw_privs ++ tables_1 from List.mem_append_right (k2_sels lw_privs) (show w ∈ tables_1 from List.mem_append_right _ h)
theorem qs0 : (Cond.selects "HiddenCaches" ⟨"HiddenCaches", "read", "(I)I"⟩ ⟨"HiddenCaches", "read", "(I)I"⟩) ∈ lw_all := lw_g (lw_at lw_ms 0 rfl) rfl
theorem qs1 : (Cond.selects "HiddenCaches" ⟨"HiddenCaches", "placeOf", "(I)I"⟩ ⟨"HiddenCaches", "placeOf", "(I)I"⟩) ∈ lw_all := lw_g (lw_at lw_ms 1 rfl) rfl
theorem qs2 : (Cond.selects "HiddenCaches" ⟨"HiddenCaches", "bring", "(I)I"⟩ ⟨"HiddenCaches", "bring", "(I)I"⟩) ∈ lw_all := lw_g (lw_at lw_ms 2 rfl) rfl
theorem qs3 : (Cond.selects "HiddenCaches" ⟨"HiddenCaches", "firstPlace", "(I)I"⟩ ⟨"HiddenCaches", "firstPlace", "(I)I"⟩) ∈ lw_all := lw_g (lw_at lw_ms 3 rfl) rfl
theorem qs4 : (Cond.selects "HiddenCaches" ⟨"HiddenCaches", "among", "(II)I"⟩ ⟨"HiddenCaches", "among", "(II)I"⟩) ∈ lw_all := lw_g (lw_at lw_ms 4 rfl) rfl
theorem qs5 : (Cond.selects "HiddenCaches" ⟨"HiddenCaches", "touch", "(I)V"⟩ ⟨"HiddenCaches", "touch", "(I)V"⟩) ∈ lw_all := lw_g (lw_at lw_ms 5 rfl) rfl
theorem qs6 : (Cond.selects "HiddenCaches" ⟨"HiddenCaches", "makeRoom", "(I)I"⟩ ⟨"HiddenCaches", "makeRoom", "(I)I"⟩) ∈ lw_all := lw_g (lw_at lw_ms 6 rfl) rfl
theorem qs7 : (Cond.selects "HiddenCaches" ⟨"HiddenCaches", "older", "(I)I"⟩ ⟨"HiddenCaches", "older", "(I)I"⟩) ∈ lw_all := lw_g (lw_at lw_ms 7 rfl) rfl
theorem qs8 : (Cond.selects "HiddenCaches" ⟨"HiddenCaches", "sinkToBuffer", "(I)V"⟩ ⟨"HiddenCaches", "sinkToBuffer", "(I)V"⟩) ∈ lw_all := lw_g (lw_at lw_ms 8 rfl) rfl
theorem qs9 : (Cond.selects "HiddenCaches" ⟨"HiddenCaches", "sinkToSecond", "(I)V"⟩ ⟨"HiddenCaches", "sinkToSecond", "(I)V"⟩) ∈ lw_all := lw_g (lw_at lw_ms 9 rfl) rfl
theorem qs10 : (Cond.selects "HiddenCaches" ⟨"HiddenCaches", "secondPlace", "(I)I"⟩ ⟨"HiddenCaches", "secondPlace", "(I)I"⟩) ∈ lw_all := lw_g (lw_at lw_ms 10 rfl) rfl
theorem qs11 : (Cond.selects "HiddenCaches" ⟨"HiddenCaches", "writeBack", "(I)V"⟩ ⟨"HiddenCaches", "writeBack", "(I)V"⟩) ∈ lw_all := lw_g (lw_at lw_ms 11 rfl) rfl
theorem qs12 : (Cond.selects "HiddenCaches" ⟨"HiddenCaches", "moveLine", "(II)V"⟩ ⟨"HiddenCaches", "moveLine", "(II)V"⟩) ∈ lw_all := lw_g (lw_at lw_ms 12 rfl) rfl
theorem qs13 : (Cond.selects "HiddenCaches" ⟨"HiddenCaches", "lowerPlace", "(I)I"⟩ ⟨"HiddenCaches", "lowerPlace", "(I)I"⟩) ∈ lw_all := lw_g (lw_at lw_ms 13 rfl) rfl
theorem qs14 : (Cond.selects "HiddenCaches" ⟨"HiddenCaches", "readIn", "(II)V"⟩ ⟨"HiddenCaches", "readIn", "(II)V"⟩) ∈ lw_all := lw_g (lw_at lw_ms 14 rfl) rfl
theorem qs15 : (Cond.selects "HiddenCaches" ⟨"HiddenCaches", "fetchAhead", "(I)V"⟩ ⟨"HiddenCaches", "fetchAhead", "(I)V"⟩) ∈ lw_all := lw_g (lw_at lw_ms 15 rfl) rfl
theorem qs16 : (Cond.selects "HiddenCaches" ⟨"HiddenCaches", "write", "(II)V"⟩ ⟨"HiddenCaches", "write", "(II)V"⟩) ∈ lw_all := lw_g (lw_at lw_ms 16 rfl) rfl
theorem qs17 : (Cond.selects "HiddenCaches" ⟨"HiddenCaches", "deviceWord", "(I)I"⟩ ⟨"HiddenCaches", "deviceWord", "(I)I"⟩) ∈ lw_all := lw_g (lw_at lw_ms 17 rfl) rfl
theorem qs18 : (Cond.selects "HiddenCaches" ⟨"HiddenCaches", "anyPlace", "(I)I"⟩ ⟨"HiddenCaches", "anyPlace", "(I)I"⟩) ∈ lw_all := lw_g (lw_at lw_ms 18 rfl) rfl
theorem qs19 : (Cond.selects "HiddenCaches" ⟨"HiddenCaches", "devicePut", "(II)V"⟩ ⟨"HiddenCaches", "devicePut", "(II)V"⟩) ∈ lw_all := lw_g (lw_at lw_ms 19 rfl) rfl
theorem qs20 : (Cond.selects "HiddenCaches" ⟨"HiddenCaches", "empty", "(I)V"⟩ ⟨"HiddenCaches", "empty", "(I)V"⟩) ∈ lw_all := lw_g (lw_at lw_ms 20 rfl) rfl
theorem qs21 : (Cond.selects "HiddenCachesModel" ⟨"HiddenCachesModel", "isWord", "(I)Z"⟩ ⟨"HiddenCachesModel", "isWord", "(I)Z"⟩) ∈ lw_all := lw_g (lw_at lw_ms 21 rfl) rfl
theorem qs22 : (Cond.selects "HiddenCachesModel" ⟨"HiddenCachesModel", "write", "(II)V"⟩ ⟨"HiddenCachesModel", "write", "(II)V"⟩) ∈ lw_all := lw_g (lw_at lw_ms 22 rfl) rfl
theorem qs23 : (Cond.selects "HiddenCachesModel" ⟨"HiddenCachesModel", "isByte", "(I)Z"⟩ ⟨"HiddenCachesModel", "isByte", "(I)Z"⟩) ∈ lw_all := lw_g (lw_at lw_ms 23 rfl) rfl
end
section
set_option maxRecDepth 100000
/-! java/lang/Object -/
def RJ0 : String := "java/lang/Object"
abbrev cJ0_init : ByteArray := object_method_1_code
def yJ0_init : MethodName := ⟨RJ0, "<init>", "()V"⟩
theorem q33 : (Jvm.Cond.instanceMethod ({ cls := "java/lang/Object", name := "<init>", desc := "()V" } : Jvm.MethodName)) ∈ lw_all := lw_g (lw_at lw_m1 9 rfl) rfl
theorem q34 : (Jvm.Cond.code ({ cls := "java/lang/Object", name := "<init>", desc := "()V" } : Jvm.MethodName) object_method_1_code (1 : Nat) (Option.none : Option Jvm.ClassFile.FieldType)) ∈ lw_all := lw_g (lw_at lw_m1 10 rfl) rfl
/-! HiddenCachesLaw -/
def RX0 : String := "HiddenCachesLaw"
abbrev cX0_cell : ByteArray := method_2_code
def yX0_cell : MethodName := ⟨RX0, "cell", "([II)I"⟩
theorem q24 : (Jvm.Cond.initialized "HiddenCachesLaw") ∈ lw_all := lw_g (lw_at lw_m1 0 rfl) rfl
theorem q27 : (Jvm.Cond.classLink "HiddenCachesLaw" (7 : Nat) "HiddenCaches") ∈ lw_all := lw_g (lw_at lw_m1 3 rfl) rfl
theorem q29 : (Jvm.Cond.methodLink "HiddenCachesLaw" (15 : Nat) ({ cls := "HiddenCaches", name := "<init>", desc := "(I)V" } : Jvm.MethodName)) ∈ lw_all := lw_g (lw_at lw_m1 5 rfl) rfl
theorem q71 : (Jvm.Cond.methodLink "HiddenCachesLaw" (21 : Nat) ({ cls := "HiddenCaches", name := "load", desc := "(I)I" } : Jvm.MethodName)) ∈ lw_all := lw_g (lw_at lw_m1 47 rfl) rfl
theorem q142 : (Jvm.Cond.methodLink "HiddenCachesLaw" (26 : Nat) ({ cls := "HiddenCaches", name := "store", desc := "(II)I" } : Jvm.MethodName)) ∈ lw_all := lw_g (lw_at lw_m1 118 rfl) rfl
theorem q150 : (Jvm.Cond.methodLink "HiddenCachesLaw" (31 : Nat) ({ cls := "HiddenCaches", name := "loadByte", desc := "(IZ)I" } : Jvm.MethodName)) ∈ lw_all := lw_g (lw_at lw_m1 126 rfl) rfl
theorem q154 : (Jvm.Cond.methodLink "HiddenCachesLaw" (36 : Nat) ({ cls := "HiddenCaches", name := "storeByte", desc := "(II)I" } : Jvm.MethodName)) ∈ lw_all := lw_g (lw_at lw_m1 130 rfl) rfl
theorem q158 : (Jvm.Cond.methodLink "HiddenCachesLaw" (40 : Nat) ({ cls := "HiddenCaches", name := "swap", desc := "(II)I" } : Jvm.MethodName)) ∈ lw_all := lw_g (lw_at lw_m1 134 rfl) rfl
theorem q162 : (Jvm.Cond.methodLink "HiddenCachesLaw" (44 : Nat) ({ cls := "HiddenCaches", name := "addTo", desc := "(II)I" } : Jvm.MethodName)) ∈ lw_all := lw_g (lw_at lw_m1 138 rfl) rfl
theorem q166 : (Jvm.Cond.methodLink "HiddenCachesLaw" (48 : Nat) ({ cls := "HiddenCaches", name := "loadReserved", desc := "(I)I" } : Jvm.MethodName)) ∈ lw_all := lw_g (lw_at lw_m1 142 rfl) rfl
theorem q170 : (Jvm.Cond.methodLink "HiddenCachesLaw" (52 : Nat) ({ cls := "HiddenCaches", name := "storeConditional", desc := "(II)I" } : Jvm.MethodName)) ∈ lw_all := lw_g (lw_at lw_m1 146 rfl) rfl
theorem q174 : (Jvm.Cond.methodLink "HiddenCachesLaw" (56 : Nat) ({ cls := "HiddenCaches", name := "copy", desc := "(III)I" } : Jvm.MethodName)) ∈ lw_all := lw_g (lw_at lw_m1 150 rfl) rfl
theorem q178 : (Jvm.Cond.methodLink "HiddenCachesLaw" (61 : Nat) ({ cls := "HiddenCaches", name := "deviceRead", desc := "(I)I" } : Jvm.MethodName)) ∈ lw_all := lw_g (lw_at lw_m1 154 rfl) rfl
theorem q190 : (Jvm.Cond.methodLink "HiddenCachesLaw" (65 : Nat) ({ cls := "HiddenCaches", name := "deviceWrite", desc := "(II)I" } : Jvm.MethodName)) ∈ lw_all := lw_g (lw_at lw_m1 166 rfl) rfl
theorem q198 : (Jvm.Cond.methodLink "HiddenCachesLaw" (69 : Nat) ({ cls := "HiddenCaches", name := "deviceFill", desc := "(III)I" } : Jvm.MethodName)) ∈ lw_all := lw_g (lw_at lw_m1 174 rfl) rfl
theorem q202 : (Jvm.Cond.methodLink "HiddenCachesLaw" (73 : Nat) ({ cls := "HiddenCaches", name := "hint", desc := "(II)I" } : Jvm.MethodName)) ∈ lw_all := lw_g (lw_at lw_m1 178 rfl) rfl
theorem q210 : (Jvm.Cond.methodLink "HiddenCachesLaw" (77 : Nat) ({ cls := "HiddenCaches", name := "sum", desc := "()I" } : Jvm.MethodName)) ∈ lw_all := lw_g (lw_at lw_m1 186 rfl) rfl
theorem q214 : (Jvm.Cond.methodLink "HiddenCachesLaw" (82 : Nat) ({ cls := "HiddenCaches", name := "reserved", desc := "()I" } : Jvm.MethodName)) ∈ lw_all := lw_g (lw_at lw_m1 190 rfl) rfl
theorem q218 : (Jvm.Cond.methodLink "HiddenCachesLaw" (9 : Nat) ({ cls := "HiddenCachesLaw", name := "cell", desc := "([II)I" } : Jvm.MethodName)) ∈ lw_all := lw_g (lw_at lw_m1 194 rfl) rfl
theorem q219 : (Jvm.Cond.static ({ cls := "HiddenCachesLaw", name := "cell", desc := "([II)I" } : Jvm.MethodName)) ∈ lw_all := lw_g (lw_at lw_m1 195 rfl) rfl
theorem q220 : (Jvm.Cond.code ({ cls := "HiddenCachesLaw", name := "cell", desc := "([II)I" } : Jvm.MethodName) method_2_code (2 : Nat) (Option.some Jvm.ClassFile.FieldType.int)) ∈ lw_all := lw_g (lw_at lw_m1 196 rfl) rfl
theorem q221 : (Jvm.Cond.classLink "HiddenCachesLaw" (18 : Nat) "HiddenCachesModel") ∈ lw_all := lw_g (lw_at lw_m1 197 rfl) rfl
theorem q223 : (Jvm.Cond.methodLink "HiddenCachesLaw" (20 : Nat) ({ cls := "HiddenCachesModel", name := "<init>", desc := "(I)V" } : Jvm.MethodName)) ∈ lw_all := lw_g (lw_at lw_m1 199 rfl) rfl
theorem q234 : (Jvm.Cond.methodLink "HiddenCachesLaw" (25 : Nat) ({ cls := "HiddenCachesModel", name := "load", desc := "(I)I" } : Jvm.MethodName)) ∈ lw_all := lw_g (lw_at lw_m1 210 rfl) rfl
theorem q242 : (Jvm.Cond.methodLink "HiddenCachesLaw" (30 : Nat) ({ cls := "HiddenCachesModel", name := "store", desc := "(II)I" } : Jvm.MethodName)) ∈ lw_all := lw_g (lw_at lw_m1 218 rfl) rfl
theorem q250 : (Jvm.Cond.methodLink "HiddenCachesLaw" (35 : Nat) ({ cls := "HiddenCachesModel", name := "loadByte", desc := "(IZ)I" } : Jvm.MethodName)) ∈ lw_all := lw_g (lw_at lw_m1 226 rfl) rfl
theorem q258 : (Jvm.Cond.methodLink "HiddenCachesLaw" (39 : Nat) ({ cls := "HiddenCachesModel", name := "storeByte", desc := "(II)I" } : Jvm.MethodName)) ∈ lw_all := lw_g (lw_at lw_m1 234 rfl) rfl
theorem q262 : (Jvm.Cond.methodLink "HiddenCachesLaw" (43 : Nat) ({ cls := "HiddenCachesModel", name := "swap", desc := "(II)I" } : Jvm.MethodName)) ∈ lw_all := lw_g (lw_at lw_m1 238 rfl) rfl
theorem q268 : (Jvm.Cond.methodLink "HiddenCachesLaw" (47 : Nat) ({ cls := "HiddenCachesModel", name := "addTo", desc := "(II)I" } : Jvm.MethodName)) ∈ lw_all := lw_g (lw_at lw_m2 4 rfl) rfl
theorem q272 : (Jvm.Cond.methodLink "HiddenCachesLaw" (51 : Nat) ({ cls := "HiddenCachesModel", name := "loadReserved", desc := "(I)I" } : Jvm.MethodName)) ∈ lw_all := lw_g (lw_at lw_m2 8 rfl) rfl
theorem q276 : (Jvm.Cond.methodLink "HiddenCachesLaw" (55 : Nat) ({ cls := "HiddenCachesModel", name := "storeConditional", desc := "(II)I" } : Jvm.MethodName)) ∈ lw_all := lw_g (lw_at lw_m2 12 rfl) rfl
theorem q280 : (Jvm.Cond.methodLink "HiddenCachesLaw" (60 : Nat) ({ cls := "HiddenCachesModel", name := "copy", desc := "(III)I" } : Jvm.MethodName)) ∈ lw_all := lw_g (lw_at lw_m2 16 rfl) rfl
theorem q284 : (Jvm.Cond.methodLink "HiddenCachesLaw" (64 : Nat) ({ cls := "HiddenCachesModel", name := "deviceRead", desc := "(I)I" } : Jvm.MethodName)) ∈ lw_all := lw_g (lw_at lw_m2 20 rfl) rfl
theorem q288 : (Jvm.Cond.methodLink "HiddenCachesLaw" (68 : Nat) ({ cls := "HiddenCachesModel", name := "deviceWrite", desc := "(II)I" } : Jvm.MethodName)) ∈ lw_all := lw_g (lw_at lw_m2 24 rfl) rfl
theorem q292 : (Jvm.Cond.methodLink "HiddenCachesLaw" (72 : Nat) ({ cls := "HiddenCachesModel", name := "deviceFill", desc := "(III)I" } : Jvm.MethodName)) ∈ lw_all := lw_g (lw_at lw_m2 28 rfl) rfl
theorem q296 : (Jvm.Cond.methodLink "HiddenCachesLaw" (76 : Nat) ({ cls := "HiddenCachesModel", name := "hint", desc := "(II)I" } : Jvm.MethodName)) ∈ lw_all := lw_g (lw_at lw_m2 32 rfl) rfl
theorem q300 : (Jvm.Cond.methodLink "HiddenCachesLaw" (81 : Nat) ({ cls := "HiddenCachesModel", name := "sum", desc := "()I" } : Jvm.MethodName)) ∈ lw_all := lw_g (lw_at lw_m2 36 rfl) rfl
theorem q304 : (Jvm.Cond.methodLink "HiddenCachesLaw" (85 : Nat) ({ cls := "HiddenCachesModel", name := "reserved", desc := "()I" } : Jvm.MethodName)) ∈ lw_all := lw_g (lw_at lw_m2 40 rfl) rfl
/-! HiddenCaches -/
def RX1 : String := "HiddenCaches"
def TX1 : u_T := fun k => match k with
  | 0 => ("HiddenCaches", "memory", "[I", true)
  | 1 => ("HiddenCaches", "lineIn", "[I", true)
  | 2 => ("HiddenCaches", "changed", "[Z", true)
  | 3 => ("HiddenCaches", "used", "[I", true)
  | 4 => ("HiddenCaches", "words", "[I", true)
  | 5 => ("HiddenCaches", "clock", "I", false)
  | 6 => ("HiddenCaches", "firstShift", "I", true)
  | 7 => ("HiddenCaches", "secondShift", "I", true)
  | 8 => ("HiddenCaches", "looksAhead", "Z", true)
  | 9 => ("HiddenCaches", "lastMiss", "I", false)
  | _ => ("HiddenCaches", "reservation", "I", false)
def tyX1 : Nat → FieldType := fun k => match k with
  | 0 => .array .int
  | 1 => .array .int
  | 2 => .array .boolean
  | 3 => .array .int
  | 4 => .array .int
  | 5 => .int
  | 6 => .int
  | 7 => .int
  | 8 => .boolean
  | 9 => .int
  | _ => .int
abbrev wsX10 : List Cond := u_ws RX1 TX1 11
theorem nmX1 : ∀ a, a < 11 → ∀ b, b < 11 → a ≠ b → (TX1 a).2.1 ≠ (TX1 b).2.1 := by decide +kernel
theorem tyX1_ok : ∀ k, k < 11 → parseFieldDescriptor (TX1 k).2.2.1 = some (tyX1 k) := by decide +kernel
abbrev cX1_init : ByteArray := prog_1_method_1_code
def yX1_init : MethodName := ⟨RX1, "<init>", "(I)V"⟩
abbrev cX1_load : ByteArray := prog_1_method_20_code
def yX1_load : MethodName := ⟨RX1, "load", "(I)I"⟩
abbrev cX1_bad : ByteArray := prog_1_method_2_code
def yX1_bad : MethodName := ⟨RX1, "bad", "(I)Z"⟩
abbrev cX1_read : ByteArray := prog_1_method_19_code
def yX1_read : MethodName := ⟨RX1, "read", "(I)I"⟩
abbrev cX1_placeOf : ByteArray := prog_1_method_17_code
def yX1_placeOf : MethodName := ⟨RX1, "placeOf", "(I)I"⟩
abbrev cX1_bring : ByteArray := prog_1_method_15_code
def yX1_bring : MethodName := ⟨RX1, "bring", "(I)I"⟩
abbrev cX1_firstPlace : ByteArray := prog_1_method_3_code
def yX1_firstPlace : MethodName := ⟨RX1, "firstPlace", "(I)I"⟩
abbrev cX1_among : ByteArray := prog_1_method_5_code
def yX1_among : MethodName := ⟨RX1, "among", "(II)I"⟩
abbrev cX1_touch : ByteArray := prog_1_method_7_code
def yX1_touch : MethodName := ⟨RX1, "touch", "(I)V"⟩
abbrev cX1_makeRoom : ByteArray := prog_1_method_13_code
def yX1_makeRoom : MethodName := ⟨RX1, "makeRoom", "(I)I"⟩
abbrev cX1_older : ByteArray := prog_1_method_6_code
def yX1_older : MethodName := ⟨RX1, "older", "(I)I"⟩
abbrev cX1_sinkToBuffer : ByteArray := prog_1_method_12_code
def yX1_sinkToBuffer : MethodName := ⟨RX1, "sinkToBuffer", "(I)V"⟩
abbrev cX1_sinkToSecond : ByteArray := prog_1_method_11_code
def yX1_sinkToSecond : MethodName := ⟨RX1, "sinkToSecond", "(I)V"⟩
abbrev cX1_secondPlace : ByteArray := prog_1_method_4_code
def yX1_secondPlace : MethodName := ⟨RX1, "secondPlace", "(I)I"⟩
abbrev cX1_writeBack : ByteArray := prog_1_method_9_code
def yX1_writeBack : MethodName := ⟨RX1, "writeBack", "(I)V"⟩
abbrev cX1_moveLine : ByteArray := prog_1_method_8_code
def yX1_moveLine : MethodName := ⟨RX1, "moveLine", "(II)V"⟩
abbrev cX1_lowerPlace : ByteArray := prog_1_method_14_code
def yX1_lowerPlace : MethodName := ⟨RX1, "lowerPlace", "(I)I"⟩
abbrev cX1_readIn : ByteArray := prog_1_method_10_code
def yX1_readIn : MethodName := ⟨RX1, "readIn", "(II)V"⟩
abbrev cX1_fetchAhead : ByteArray := prog_1_method_16_code
def yX1_fetchAhead : MethodName := ⟨RX1, "fetchAhead", "(I)V"⟩
abbrev cX1_store : ByteArray := prog_1_method_21_code
def yX1_store : MethodName := ⟨RX1, "store", "(II)I"⟩
abbrev cX1_write : ByteArray := prog_1_method_18_code
def yX1_write : MethodName := ⟨RX1, "write", "(II)V"⟩
abbrev cX1_loadByte : ByteArray := prog_1_method_22_code
def yX1_loadByte : MethodName := ⟨RX1, "loadByte", "(IZ)I"⟩
abbrev cX1_storeByte : ByteArray := prog_1_method_23_code
def yX1_storeByte : MethodName := ⟨RX1, "storeByte", "(II)I"⟩
abbrev cX1_swap : ByteArray := prog_1_method_24_code
def yX1_swap : MethodName := ⟨RX1, "swap", "(II)I"⟩
abbrev cX1_addTo : ByteArray := prog_1_method_25_code
def yX1_addTo : MethodName := ⟨RX1, "addTo", "(II)I"⟩
abbrev cX1_loadReserved : ByteArray := prog_1_method_26_code
def yX1_loadReserved : MethodName := ⟨RX1, "loadReserved", "(I)I"⟩
abbrev cX1_storeConditional : ByteArray := prog_1_method_27_code
def yX1_storeConditional : MethodName := ⟨RX1, "storeConditional", "(II)I"⟩
abbrev cX1_copy : ByteArray := prog_1_method_28_code
def yX1_copy : MethodName := ⟨RX1, "copy", "(III)I"⟩
abbrev cX1_deviceRead : ByteArray := prog_1_method_32_code
def yX1_deviceRead : MethodName := ⟨RX1, "deviceRead", "(I)I"⟩
abbrev cX1_deviceWord : ByteArray := prog_1_method_30_code
def yX1_deviceWord : MethodName := ⟨RX1, "deviceWord", "(I)I"⟩
abbrev cX1_anyPlace : ByteArray := prog_1_method_29_code
def yX1_anyPlace : MethodName := ⟨RX1, "anyPlace", "(I)I"⟩
abbrev cX1_deviceWrite : ByteArray := prog_1_method_33_code
def yX1_deviceWrite : MethodName := ⟨RX1, "deviceWrite", "(II)I"⟩
abbrev cX1_devicePut : ByteArray := prog_1_method_31_code
def yX1_devicePut : MethodName := ⟨RX1, "devicePut", "(II)V"⟩
abbrev cX1_deviceFill : ByteArray := prog_1_method_34_code
def yX1_deviceFill : MethodName := ⟨RX1, "deviceFill", "(III)I"⟩
abbrev cX1_hint : ByteArray := prog_1_method_36_code
def yX1_hint : MethodName := ⟨RX1, "hint", "(II)I"⟩
abbrev cX1_empty : ByteArray := prog_1_method_35_code
def yX1_empty : MethodName := ⟨RX1, "empty", "(I)V"⟩
abbrev cX1_sum : ByteArray := prog_1_method_37_code
def yX1_sum : MethodName := ⟨RX1, "sum", "()I"⟩
abbrev cX1_reserved : ByteArray := prog_1_method_38_code
def yX1_reserved : MethodName := ⟨RX1, "reserved", "()I"⟩
theorem q25 : (Jvm.Cond.initialized "HiddenCaches") ∈ lw_all := lw_g (lw_at lw_m1 1 rfl) rfl
theorem q28 : (Jvm.Cond.instantiable "HiddenCaches" (11 : Nat)) ∈ lw_all := lw_g (lw_at lw_m1 4 rfl) rfl
theorem q30 : (Jvm.Cond.instanceMethod ({ cls := "HiddenCaches", name := "<init>", desc := "(I)V" } : Jvm.MethodName)) ∈ lw_all := lw_g (lw_at lw_m1 6 rfl) rfl
theorem q31 : (Jvm.Cond.code ({ cls := "HiddenCaches", name := "<init>", desc := "(I)V" } : Jvm.MethodName) prog_1_method_1_code (3 : Nat) (Option.none : Option Jvm.ClassFile.FieldType)) ∈ lw_all := lw_g (lw_at lw_m1 7 rfl) rfl
theorem q32 : (Jvm.Cond.methodLink "HiddenCaches" (1 : Nat) ({ cls := "java/lang/Object", name := "<init>", desc := "()V" } : Jvm.MethodName)) ∈ lw_all := lw_g (lw_at lw_m1 8 rfl) rfl
theorem q35 : (Jvm.Cond.fieldLink "HiddenCaches" (7 : Nat) "HiddenCaches" "memory" "[I") ∈ lw_all := lw_g (lw_at lw_m1 11 rfl) rfl
theorem q36 : (Jvm.Cond.fieldLink "HiddenCaches" (13 : Nat) "HiddenCaches" "lineIn" "[I") ∈ lw_all := lw_g (lw_at lw_m1 12 rfl) rfl
theorem q37 : (Jvm.Cond.fieldLink "HiddenCaches" (16 : Nat) "HiddenCaches" "changed" "[Z") ∈ lw_all := lw_g (lw_at lw_m1 13 rfl) rfl
theorem q38 : (Jvm.Cond.fieldLink "HiddenCaches" (20 : Nat) "HiddenCaches" "used" "[I") ∈ lw_all := lw_g (lw_at lw_m1 14 rfl) rfl
theorem q39 : (Jvm.Cond.fieldLink "HiddenCaches" (23 : Nat) "HiddenCaches" "words" "[I") ∈ lw_all := lw_g (lw_at lw_m1 15 rfl) rfl
theorem q40 : (Jvm.Cond.fieldLink "HiddenCaches" (43 : Nat) "HiddenCaches" "clock" "I") ∈ lw_all := lw_g (lw_at lw_m1 16 rfl) rfl
theorem q41 : (Jvm.Cond.fieldLink "HiddenCaches" (26 : Nat) "HiddenCaches" "firstShift" "I") ∈ lw_all := lw_g (lw_at lw_m1 17 rfl) rfl
theorem q42 : (Jvm.Cond.fieldLink "HiddenCaches" (30 : Nat) "HiddenCaches" "secondShift" "I") ∈ lw_all := lw_g (lw_at lw_m1 18 rfl) rfl
theorem q43 : (Jvm.Cond.fieldLink "HiddenCaches" (33 : Nat) "HiddenCaches" "looksAhead" "Z") ∈ lw_all := lw_g (lw_at lw_m1 19 rfl) rfl
theorem q44 : (Jvm.Cond.fieldLink "HiddenCaches" (37 : Nat) "HiddenCaches" "lastMiss" "I") ∈ lw_all := lw_g (lw_at lw_m1 20 rfl) rfl
theorem q45 : (Jvm.Cond.fieldLink "HiddenCaches" (40 : Nat) "HiddenCaches" "reservation" "I") ∈ lw_all := lw_g (lw_at lw_m1 21 rfl) rfl
theorem q46 : (Jvm.Cond.laysFinal "HiddenCaches" "HiddenCaches" "memory" "[I") ∈ lw_all := lw_g (lw_at lw_m1 22 rfl) rfl
theorem q47 : (Jvm.Cond.soleField "HiddenCaches" "memory") ∈ lw_all := lw_g (lw_at lw_m1 23 rfl) rfl
theorem q48 : (Jvm.Cond.laysFinal "HiddenCaches" "HiddenCaches" "lineIn" "[I") ∈ lw_all := lw_g (lw_at lw_m1 24 rfl) rfl
theorem q49 : (Jvm.Cond.soleField "HiddenCaches" "lineIn") ∈ lw_all := lw_g (lw_at lw_m1 25 rfl) rfl
theorem q50 : (Jvm.Cond.laysFinal "HiddenCaches" "HiddenCaches" "changed" "[Z") ∈ lw_all := lw_g (lw_at lw_m1 26 rfl) rfl
theorem q51 : (Jvm.Cond.soleField "HiddenCaches" "changed") ∈ lw_all := lw_g (lw_at lw_m1 27 rfl) rfl
theorem q52 : (Jvm.Cond.laysFinal "HiddenCaches" "HiddenCaches" "used" "[I") ∈ lw_all := lw_g (lw_at lw_m1 28 rfl) rfl
theorem q53 : (Jvm.Cond.soleField "HiddenCaches" "used") ∈ lw_all := lw_g (lw_at lw_m1 29 rfl) rfl
theorem q54 : (Jvm.Cond.laysFinal "HiddenCaches" "HiddenCaches" "words" "[I") ∈ lw_all := lw_g (lw_at lw_m1 30 rfl) rfl
theorem q55 : (Jvm.Cond.soleField "HiddenCaches" "words") ∈ lw_all := lw_g (lw_at lw_m1 31 rfl) rfl
theorem q56 : (Jvm.Cond.lays "HiddenCaches" "HiddenCaches" "clock" "I") ∈ lw_all := lw_g (lw_at lw_m1 32 rfl) rfl
theorem q57 : (Jvm.Cond.soleField "HiddenCaches" "clock") ∈ lw_all := lw_g (lw_at lw_m1 33 rfl) rfl
theorem q58 : (Jvm.Cond.laysFinal "HiddenCaches" "HiddenCaches" "firstShift" "I") ∈ lw_all := lw_g (lw_at lw_m1 34 rfl) rfl
theorem q59 : (Jvm.Cond.soleField "HiddenCaches" "firstShift") ∈ lw_all := lw_g (lw_at lw_m1 35 rfl) rfl
theorem q60 : (Jvm.Cond.laysFinal "HiddenCaches" "HiddenCaches" "secondShift" "I") ∈ lw_all := lw_g (lw_at lw_m1 36 rfl) rfl
theorem q61 : (Jvm.Cond.soleField "HiddenCaches" "secondShift") ∈ lw_all := lw_g (lw_at lw_m1 37 rfl) rfl
theorem q62 : (Jvm.Cond.laysFinal "HiddenCaches" "HiddenCaches" "looksAhead" "Z") ∈ lw_all := lw_g (lw_at lw_m1 38 rfl) rfl
theorem q63 : (Jvm.Cond.soleField "HiddenCaches" "looksAhead") ∈ lw_all := lw_g (lw_at lw_m1 39 rfl) rfl
theorem q64 : (Jvm.Cond.lays "HiddenCaches" "HiddenCaches" "lastMiss" "I") ∈ lw_all := lw_g (lw_at lw_m1 40 rfl) rfl
theorem q65 : (Jvm.Cond.soleField "HiddenCaches" "lastMiss") ∈ lw_all := lw_g (lw_at lw_m1 41 rfl) rfl
theorem q66 : (Jvm.Cond.lays "HiddenCaches" "HiddenCaches" "reservation" "I") ∈ lw_all := lw_g (lw_at lw_m1 42 rfl) rfl
theorem q67 : (Jvm.Cond.soleField "HiddenCaches" "reservation") ∈ lw_all := lw_g (lw_at lw_m1 43 rfl) rfl
theorem q68 : (Jvm.Cond.superclass "HiddenCaches" "java/lang/Object") ∈ lw_all := lw_g (lw_at lw_m1 44 rfl) rfl
theorem q72 : (Jvm.Cond.instanceMethod ({ cls := "HiddenCaches", name := "load", desc := "(I)I" } : Jvm.MethodName)) ∈ lw_all := lw_g (lw_at lw_m1 48 rfl) rfl
theorem q73 : (Jvm.Cond.selects "HiddenCaches" ({ cls := "HiddenCaches", name := "load", desc := "(I)I" } : Jvm.MethodName) ({ cls := "HiddenCaches", name := "load", desc := "(I)I" } : Jvm.MethodName)) ∈ lw_all := lw_g (lw_at lw_m1 49 rfl) rfl
theorem q74 : (Jvm.Cond.code ({ cls := "HiddenCaches", name := "load", desc := "(I)I" } : Jvm.MethodName) prog_1_method_20_code (2 : Nat) (Option.some Jvm.ClassFile.FieldType.int)) ∈ lw_all := lw_g (lw_at lw_m1 50 rfl) rfl
theorem q75 : (Jvm.Cond.methodLink "HiddenCaches" (95 : Nat) ({ cls := "HiddenCaches", name := "bad", desc := "(I)Z" } : Jvm.MethodName)) ∈ lw_all := lw_g (lw_at lw_m1 51 rfl) rfl
theorem q76 : (Jvm.Cond.static ({ cls := "HiddenCaches", name := "bad", desc := "(I)Z" } : Jvm.MethodName)) ∈ lw_all := lw_g (lw_at lw_m1 52 rfl) rfl
theorem q77 : (Jvm.Cond.code ({ cls := "HiddenCaches", name := "bad", desc := "(I)Z" } : Jvm.MethodName) prog_1_method_2_code (1 : Nat) (Option.some Jvm.ClassFile.FieldType.boolean)) ∈ lw_all := lw_g (lw_at lw_m1 53 rfl) rfl
theorem q78 : (Jvm.Cond.methodLink "HiddenCaches" (99 : Nat) ({ cls := "HiddenCaches", name := "read", desc := "(I)I" } : Jvm.MethodName)) ∈ lw_all := lw_g (lw_at lw_m1 54 rfl) rfl
theorem q79 : (Jvm.Cond.privateMethod ({ cls := "HiddenCaches", name := "read", desc := "(I)I" } : Jvm.MethodName)) ∈ lw_tbl := lw_at lw_m1 55 rfl
theorem q80 : (Jvm.Cond.instanceMethod ({ cls := "HiddenCaches", name := "read", desc := "(I)I" } : Jvm.MethodName)) ∈ lw_all := lw_g (lw_at lw_m1 56 rfl) rfl
theorem q81 : (Jvm.Cond.code ({ cls := "HiddenCaches", name := "read", desc := "(I)I" } : Jvm.MethodName) prog_1_method_19_code (3 : Nat) (Option.some Jvm.ClassFile.FieldType.int)) ∈ lw_all := lw_g (lw_at lw_m1 57 rfl) rfl
theorem q82 : (Jvm.Cond.methodLink "HiddenCaches" (92 : Nat) ({ cls := "HiddenCaches", name := "placeOf", desc := "(I)I" } : Jvm.MethodName)) ∈ lw_all := lw_g (lw_at lw_m1 58 rfl) rfl
theorem q83 : (Jvm.Cond.privateMethod ({ cls := "HiddenCaches", name := "placeOf", desc := "(I)I" } : Jvm.MethodName)) ∈ lw_tbl := lw_at lw_m1 59 rfl
theorem q84 : (Jvm.Cond.instanceMethod ({ cls := "HiddenCaches", name := "placeOf", desc := "(I)I" } : Jvm.MethodName)) ∈ lw_all := lw_g (lw_at lw_m1 60 rfl) rfl
theorem q85 : (Jvm.Cond.code ({ cls := "HiddenCaches", name := "placeOf", desc := "(I)I" } : Jvm.MethodName) prog_1_method_17_code (3 : Nat) (Option.some Jvm.ClassFile.FieldType.int)) ∈ lw_all := lw_g (lw_at lw_m1 61 rfl) rfl
theorem q86 : (Jvm.Cond.methodLink "HiddenCaches" (89 : Nat) ({ cls := "HiddenCaches", name := "bring", desc := "(I)I" } : Jvm.MethodName)) ∈ lw_all := lw_g (lw_at lw_m1 62 rfl) rfl
theorem q87 : (Jvm.Cond.privateMethod ({ cls := "HiddenCaches", name := "bring", desc := "(I)I" } : Jvm.MethodName)) ∈ lw_tbl := lw_at lw_m1 63 rfl
theorem q88 : (Jvm.Cond.instanceMethod ({ cls := "HiddenCaches", name := "bring", desc := "(I)I" } : Jvm.MethodName)) ∈ lw_all := lw_g (lw_at lw_m1 64 rfl) rfl
theorem q89 : (Jvm.Cond.code ({ cls := "HiddenCaches", name := "bring", desc := "(I)I" } : Jvm.MethodName) prog_1_method_15_code (6 : Nat) (Option.some Jvm.ClassFile.FieldType.int)) ∈ lw_all := lw_g (lw_at lw_m1 65 rfl) rfl
theorem q90 : (Jvm.Cond.methodLink "HiddenCaches" (67 : Nat) ({ cls := "HiddenCaches", name := "firstPlace", desc := "(I)I" } : Jvm.MethodName)) ∈ lw_all := lw_g (lw_at lw_m1 66 rfl) rfl
theorem q91 : (Jvm.Cond.privateMethod ({ cls := "HiddenCaches", name := "firstPlace", desc := "(I)I" } : Jvm.MethodName)) ∈ lw_tbl := lw_at lw_m1 67 rfl
theorem q92 : (Jvm.Cond.instanceMethod ({ cls := "HiddenCaches", name := "firstPlace", desc := "(I)I" } : Jvm.MethodName)) ∈ lw_all := lw_g (lw_at lw_m1 68 rfl) rfl
theorem q93 : (Jvm.Cond.code ({ cls := "HiddenCaches", name := "firstPlace", desc := "(I)I" } : Jvm.MethodName) prog_1_method_3_code (2 : Nat) (Option.some Jvm.ClassFile.FieldType.int)) ∈ lw_all := lw_g (lw_at lw_m1 69 rfl) rfl
theorem q94 : (Jvm.Cond.methodLink "HiddenCaches" (73 : Nat) ({ cls := "HiddenCaches", name := "among", desc := "(II)I" } : Jvm.MethodName)) ∈ lw_all := lw_g (lw_at lw_m1 70 rfl) rfl
theorem q95 : (Jvm.Cond.privateMethod ({ cls := "HiddenCaches", name := "among", desc := "(II)I" } : Jvm.MethodName)) ∈ lw_tbl := lw_at lw_m1 71 rfl
theorem q96 : (Jvm.Cond.instanceMethod ({ cls := "HiddenCaches", name := "among", desc := "(II)I" } : Jvm.MethodName)) ∈ lw_all := lw_g (lw_at lw_m1 72 rfl) rfl
theorem q97 : (Jvm.Cond.code ({ cls := "HiddenCaches", name := "among", desc := "(II)I" } : Jvm.MethodName) prog_1_method_5_code (3 : Nat) (Option.some Jvm.ClassFile.FieldType.int)) ∈ lw_all := lw_g (lw_at lw_m1 73 rfl) rfl
theorem q98 : (Jvm.Cond.methodLink "HiddenCaches" (46 : Nat) ({ cls := "HiddenCaches", name := "touch", desc := "(I)V" } : Jvm.MethodName)) ∈ lw_all := lw_g (lw_at lw_m1 74 rfl) rfl
theorem q99 : (Jvm.Cond.privateMethod ({ cls := "HiddenCaches", name := "touch", desc := "(I)V" } : Jvm.MethodName)) ∈ lw_tbl := lw_at lw_m1 75 rfl
theorem q100 : (Jvm.Cond.instanceMethod ({ cls := "HiddenCaches", name := "touch", desc := "(I)V" } : Jvm.MethodName)) ∈ lw_all := lw_g (lw_at lw_m1 76 rfl) rfl
theorem q101 : (Jvm.Cond.code ({ cls := "HiddenCaches", name := "touch", desc := "(I)V" } : Jvm.MethodName) prog_1_method_7_code (2 : Nat) (Option.none : Option Jvm.ClassFile.FieldType)) ∈ lw_all := lw_g (lw_at lw_m1 77 rfl) rfl
theorem q102 : (Jvm.Cond.methodLink "HiddenCaches" (77 : Nat) ({ cls := "HiddenCaches", name := "makeRoom", desc := "(I)I" } : Jvm.MethodName)) ∈ lw_all := lw_g (lw_at lw_m1 78 rfl) rfl
theorem q103 : (Jvm.Cond.privateMethod ({ cls := "HiddenCaches", name := "makeRoom", desc := "(I)I" } : Jvm.MethodName)) ∈ lw_tbl := lw_at lw_m1 79 rfl
theorem q104 : (Jvm.Cond.instanceMethod ({ cls := "HiddenCaches", name := "makeRoom", desc := "(I)I" } : Jvm.MethodName)) ∈ lw_all := lw_g (lw_at lw_m1 80 rfl) rfl
theorem q105 : (Jvm.Cond.code ({ cls := "HiddenCaches", name := "makeRoom", desc := "(I)I" } : Jvm.MethodName) prog_1_method_13_code (4 : Nat) (Option.some Jvm.ClassFile.FieldType.int)) ∈ lw_all := lw_g (lw_at lw_m1 81 rfl) rfl
theorem q106 : (Jvm.Cond.methodLink "HiddenCaches" (54 : Nat) ({ cls := "HiddenCaches", name := "older", desc := "(I)I" } : Jvm.MethodName)) ∈ lw_all := lw_g (lw_at lw_m1 82 rfl) rfl
theorem q107 : (Jvm.Cond.privateMethod ({ cls := "HiddenCaches", name := "older", desc := "(I)I" } : Jvm.MethodName)) ∈ lw_tbl := lw_at lw_m1 83 rfl
theorem q108 : (Jvm.Cond.instanceMethod ({ cls := "HiddenCaches", name := "older", desc := "(I)I" } : Jvm.MethodName)) ∈ lw_all := lw_g (lw_at lw_m1 84 rfl) rfl
theorem q109 : (Jvm.Cond.code ({ cls := "HiddenCaches", name := "older", desc := "(I)I" } : Jvm.MethodName) prog_1_method_6_code (2 : Nat) (Option.some Jvm.ClassFile.FieldType.int)) ∈ lw_all := lw_g (lw_at lw_m1 85 rfl) rfl
theorem q110 : (Jvm.Cond.methodLink "HiddenCaches" (70 : Nat) ({ cls := "HiddenCaches", name := "sinkToBuffer", desc := "(I)V" } : Jvm.MethodName)) ∈ lw_all := lw_g (lw_at lw_m1 86 rfl) rfl
theorem q111 : (Jvm.Cond.privateMethod ({ cls := "HiddenCaches", name := "sinkToBuffer", desc := "(I)V" } : Jvm.MethodName)) ∈ lw_tbl := lw_at lw_m1 87 rfl
theorem q112 : (Jvm.Cond.instanceMethod ({ cls := "HiddenCaches", name := "sinkToBuffer", desc := "(I)V" } : Jvm.MethodName)) ∈ lw_all := lw_g (lw_at lw_m1 88 rfl) rfl
theorem q113 : (Jvm.Cond.code ({ cls := "HiddenCaches", name := "sinkToBuffer", desc := "(I)V" } : Jvm.MethodName) prog_1_method_12_code (3 : Nat) (Option.none : Option Jvm.ClassFile.FieldType)) ∈ lw_all := lw_g (lw_at lw_m1 89 rfl) rfl
theorem q114 : (Jvm.Cond.methodLink "HiddenCaches" (64 : Nat) ({ cls := "HiddenCaches", name := "sinkToSecond", desc := "(I)V" } : Jvm.MethodName)) ∈ lw_all := lw_g (lw_at lw_m1 90 rfl) rfl
theorem q115 : (Jvm.Cond.privateMethod ({ cls := "HiddenCaches", name := "sinkToSecond", desc := "(I)V" } : Jvm.MethodName)) ∈ lw_tbl := lw_at lw_m1 91 rfl
theorem q116 : (Jvm.Cond.instanceMethod ({ cls := "HiddenCaches", name := "sinkToSecond", desc := "(I)V" } : Jvm.MethodName)) ∈ lw_all := lw_g (lw_at lw_m1 92 rfl) rfl
theorem q117 : (Jvm.Cond.code ({ cls := "HiddenCaches", name := "sinkToSecond", desc := "(I)V" } : Jvm.MethodName) prog_1_method_11_code (4 : Nat) (Option.none : Option Jvm.ClassFile.FieldType)) ∈ lw_all := lw_g (lw_at lw_m1 93 rfl) rfl
theorem q118 : (Jvm.Cond.methodLink "HiddenCaches" (50 : Nat) ({ cls := "HiddenCaches", name := "secondPlace", desc := "(I)I" } : Jvm.MethodName)) ∈ lw_all := lw_g (lw_at lw_m1 94 rfl) rfl
theorem q119 : (Jvm.Cond.privateMethod ({ cls := "HiddenCaches", name := "secondPlace", desc := "(I)I" } : Jvm.MethodName)) ∈ lw_tbl := lw_at lw_m1 95 rfl
theorem q120 : (Jvm.Cond.instanceMethod ({ cls := "HiddenCaches", name := "secondPlace", desc := "(I)I" } : Jvm.MethodName)) ∈ lw_all := lw_g (lw_at lw_m1 96 rfl) rfl
theorem q121 : (Jvm.Cond.code ({ cls := "HiddenCaches", name := "secondPlace", desc := "(I)I" } : Jvm.MethodName) prog_1_method_4_code (2 : Nat) (Option.some Jvm.ClassFile.FieldType.int)) ∈ lw_all := lw_g (lw_at lw_m1 97 rfl) rfl
theorem q122 : (Jvm.Cond.methodLink "HiddenCaches" (57 : Nat) ({ cls := "HiddenCaches", name := "writeBack", desc := "(I)V" } : Jvm.MethodName)) ∈ lw_all := lw_g (lw_at lw_m1 98 rfl) rfl
theorem q123 : (Jvm.Cond.privateMethod ({ cls := "HiddenCaches", name := "writeBack", desc := "(I)V" } : Jvm.MethodName)) ∈ lw_tbl := lw_at lw_m1 99 rfl
theorem q124 : (Jvm.Cond.instanceMethod ({ cls := "HiddenCaches", name := "writeBack", desc := "(I)V" } : Jvm.MethodName)) ∈ lw_all := lw_g (lw_at lw_m1 100 rfl) rfl
theorem q125 : (Jvm.Cond.code ({ cls := "HiddenCaches", name := "writeBack", desc := "(I)V" } : Jvm.MethodName) prog_1_method_9_code (3 : Nat) (Option.none : Option Jvm.ClassFile.FieldType)) ∈ lw_all := lw_g (lw_at lw_m1 101 rfl) rfl
theorem q126 : (Jvm.Cond.methodLink "HiddenCaches" (60 : Nat) ({ cls := "HiddenCaches", name := "moveLine", desc := "(II)V" } : Jvm.MethodName)) ∈ lw_all := lw_g (lw_at lw_m1 102 rfl) rfl
theorem q127 : (Jvm.Cond.privateMethod ({ cls := "HiddenCaches", name := "moveLine", desc := "(II)V" } : Jvm.MethodName)) ∈ lw_tbl := lw_at lw_m1 103 rfl
theorem q128 : (Jvm.Cond.instanceMethod ({ cls := "HiddenCaches", name := "moveLine", desc := "(II)V" } : Jvm.MethodName)) ∈ lw_all := lw_g (lw_at lw_m1 104 rfl) rfl
theorem q129 : (Jvm.Cond.code ({ cls := "HiddenCaches", name := "moveLine", desc := "(II)V" } : Jvm.MethodName) prog_1_method_8_code (4 : Nat) (Option.none : Option Jvm.ClassFile.FieldType)) ∈ lw_all := lw_g (lw_at lw_m1 105 rfl) rfl
theorem q130 : (Jvm.Cond.methodLink "HiddenCaches" (80 : Nat) ({ cls := "HiddenCaches", name := "lowerPlace", desc := "(I)I" } : Jvm.MethodName)) ∈ lw_all := lw_g (lw_at lw_m1 106 rfl) rfl
theorem q131 : (Jvm.Cond.privateMethod ({ cls := "HiddenCaches", name := "lowerPlace", desc := "(I)I" } : Jvm.MethodName)) ∈ lw_tbl := lw_at lw_m1 107 rfl
theorem q132 : (Jvm.Cond.instanceMethod ({ cls := "HiddenCaches", name := "lowerPlace", desc := "(I)I" } : Jvm.MethodName)) ∈ lw_all := lw_g (lw_at lw_m1 108 rfl) rfl
theorem q133 : (Jvm.Cond.code ({ cls := "HiddenCaches", name := "lowerPlace", desc := "(I)I" } : Jvm.MethodName) prog_1_method_14_code (4 : Nat) (Option.some Jvm.ClassFile.FieldType.int)) ∈ lw_all := lw_g (lw_at lw_m1 109 rfl) rfl
theorem q134 : (Jvm.Cond.methodLink "HiddenCaches" (83 : Nat) ({ cls := "HiddenCaches", name := "readIn", desc := "(II)V" } : Jvm.MethodName)) ∈ lw_all := lw_g (lw_at lw_m1 110 rfl) rfl
theorem q135 : (Jvm.Cond.privateMethod ({ cls := "HiddenCaches", name := "readIn", desc := "(II)V" } : Jvm.MethodName)) ∈ lw_tbl := lw_at lw_m1 111 rfl
theorem q136 : (Jvm.Cond.instanceMethod ({ cls := "HiddenCaches", name := "readIn", desc := "(II)V" } : Jvm.MethodName)) ∈ lw_all := lw_g (lw_at lw_m1 112 rfl) rfl
theorem q137 : (Jvm.Cond.code ({ cls := "HiddenCaches", name := "readIn", desc := "(II)V" } : Jvm.MethodName) prog_1_method_10_code (4 : Nat) (Option.none : Option Jvm.ClassFile.FieldType)) ∈ lw_all := lw_g (lw_at lw_m1 113 rfl) rfl
theorem q138 : (Jvm.Cond.methodLink "HiddenCaches" (86 : Nat) ({ cls := "HiddenCaches", name := "fetchAhead", desc := "(I)V" } : Jvm.MethodName)) ∈ lw_all := lw_g (lw_at lw_m1 114 rfl) rfl
theorem q139 : (Jvm.Cond.privateMethod ({ cls := "HiddenCaches", name := "fetchAhead", desc := "(I)V" } : Jvm.MethodName)) ∈ lw_tbl := lw_at lw_m1 115 rfl
theorem q140 : (Jvm.Cond.instanceMethod ({ cls := "HiddenCaches", name := "fetchAhead", desc := "(I)V" } : Jvm.MethodName)) ∈ lw_all := lw_g (lw_at lw_m1 116 rfl) rfl
theorem q141 : (Jvm.Cond.code ({ cls := "HiddenCaches", name := "fetchAhead", desc := "(I)V" } : Jvm.MethodName) prog_1_method_16_code (7 : Nat) (Option.none : Option Jvm.ClassFile.FieldType)) ∈ lw_all := lw_g (lw_at lw_m1 117 rfl) rfl
theorem q143 : (Jvm.Cond.instanceMethod ({ cls := "HiddenCaches", name := "store", desc := "(II)I" } : Jvm.MethodName)) ∈ lw_all := lw_g (lw_at lw_m1 119 rfl) rfl
theorem q144 : (Jvm.Cond.selects "HiddenCaches" ({ cls := "HiddenCaches", name := "store", desc := "(II)I" } : Jvm.MethodName) ({ cls := "HiddenCaches", name := "store", desc := "(II)I" } : Jvm.MethodName)) ∈ lw_all := lw_g (lw_at lw_m1 120 rfl) rfl
theorem q145 : (Jvm.Cond.code ({ cls := "HiddenCaches", name := "store", desc := "(II)I" } : Jvm.MethodName) prog_1_method_21_code (3 : Nat) (Option.some Jvm.ClassFile.FieldType.int)) ∈ lw_all := lw_g (lw_at lw_m1 121 rfl) rfl
theorem q146 : (Jvm.Cond.methodLink "HiddenCaches" (102 : Nat) ({ cls := "HiddenCaches", name := "write", desc := "(II)V" } : Jvm.MethodName)) ∈ lw_all := lw_g (lw_at lw_m1 122 rfl) rfl
theorem q147 : (Jvm.Cond.privateMethod ({ cls := "HiddenCaches", name := "write", desc := "(II)V" } : Jvm.MethodName)) ∈ lw_tbl := lw_at lw_m1 123 rfl
theorem q148 : (Jvm.Cond.instanceMethod ({ cls := "HiddenCaches", name := "write", desc := "(II)V" } : Jvm.MethodName)) ∈ lw_all := lw_g (lw_at lw_m1 124 rfl) rfl
theorem q149 : (Jvm.Cond.code ({ cls := "HiddenCaches", name := "write", desc := "(II)V" } : Jvm.MethodName) prog_1_method_18_code (4 : Nat) (Option.none : Option Jvm.ClassFile.FieldType)) ∈ lw_all := lw_g (lw_at lw_m1 125 rfl) rfl
theorem q151 : (Jvm.Cond.instanceMethod ({ cls := "HiddenCaches", name := "loadByte", desc := "(IZ)I" } : Jvm.MethodName)) ∈ lw_all := lw_g (lw_at lw_m1 127 rfl) rfl
theorem q152 : (Jvm.Cond.selects "HiddenCaches" ({ cls := "HiddenCaches", name := "loadByte", desc := "(IZ)I" } : Jvm.MethodName) ({ cls := "HiddenCaches", name := "loadByte", desc := "(IZ)I" } : Jvm.MethodName)) ∈ lw_all := lw_g (lw_at lw_m1 128 rfl) rfl
theorem q153 : (Jvm.Cond.code ({ cls := "HiddenCaches", name := "loadByte", desc := "(IZ)I" } : Jvm.MethodName) prog_1_method_22_code (5 : Nat) (Option.some Jvm.ClassFile.FieldType.int)) ∈ lw_all := lw_g (lw_at lw_m1 129 rfl) rfl
theorem q155 : (Jvm.Cond.instanceMethod ({ cls := "HiddenCaches", name := "storeByte", desc := "(II)I" } : Jvm.MethodName)) ∈ lw_all := lw_g (lw_at lw_m1 131 rfl) rfl
theorem q156 : (Jvm.Cond.selects "HiddenCaches" ({ cls := "HiddenCaches", name := "storeByte", desc := "(II)I" } : Jvm.MethodName) ({ cls := "HiddenCaches", name := "storeByte", desc := "(II)I" } : Jvm.MethodName)) ∈ lw_all := lw_g (lw_at lw_m1 132 rfl) rfl
theorem q157 : (Jvm.Cond.code ({ cls := "HiddenCaches", name := "storeByte", desc := "(II)I" } : Jvm.MethodName) prog_1_method_23_code (6 : Nat) (Option.some Jvm.ClassFile.FieldType.int)) ∈ lw_all := lw_g (lw_at lw_m1 133 rfl) rfl
theorem q159 : (Jvm.Cond.instanceMethod ({ cls := "HiddenCaches", name := "swap", desc := "(II)I" } : Jvm.MethodName)) ∈ lw_all := lw_g (lw_at lw_m1 135 rfl) rfl
theorem q160 : (Jvm.Cond.selects "HiddenCaches" ({ cls := "HiddenCaches", name := "swap", desc := "(II)I" } : Jvm.MethodName) ({ cls := "HiddenCaches", name := "swap", desc := "(II)I" } : Jvm.MethodName)) ∈ lw_all := lw_g (lw_at lw_m1 136 rfl) rfl
theorem q161 : (Jvm.Cond.code ({ cls := "HiddenCaches", name := "swap", desc := "(II)I" } : Jvm.MethodName) prog_1_method_24_code (4 : Nat) (Option.some Jvm.ClassFile.FieldType.int)) ∈ lw_all := lw_g (lw_at lw_m1 137 rfl) rfl
theorem q163 : (Jvm.Cond.instanceMethod ({ cls := "HiddenCaches", name := "addTo", desc := "(II)I" } : Jvm.MethodName)) ∈ lw_all := lw_g (lw_at lw_m1 139 rfl) rfl
theorem q164 : (Jvm.Cond.selects "HiddenCaches" ({ cls := "HiddenCaches", name := "addTo", desc := "(II)I" } : Jvm.MethodName) ({ cls := "HiddenCaches", name := "addTo", desc := "(II)I" } : Jvm.MethodName)) ∈ lw_all := lw_g (lw_at lw_m1 140 rfl) rfl
theorem q165 : (Jvm.Cond.code ({ cls := "HiddenCaches", name := "addTo", desc := "(II)I" } : Jvm.MethodName) prog_1_method_25_code (4 : Nat) (Option.some Jvm.ClassFile.FieldType.int)) ∈ lw_all := lw_g (lw_at lw_m1 141 rfl) rfl
theorem q167 : (Jvm.Cond.instanceMethod ({ cls := "HiddenCaches", name := "loadReserved", desc := "(I)I" } : Jvm.MethodName)) ∈ lw_all := lw_g (lw_at lw_m1 143 rfl) rfl
theorem q168 : (Jvm.Cond.selects "HiddenCaches" ({ cls := "HiddenCaches", name := "loadReserved", desc := "(I)I" } : Jvm.MethodName) ({ cls := "HiddenCaches", name := "loadReserved", desc := "(I)I" } : Jvm.MethodName)) ∈ lw_all := lw_g (lw_at lw_m1 144 rfl) rfl
theorem q169 : (Jvm.Cond.code ({ cls := "HiddenCaches", name := "loadReserved", desc := "(I)I" } : Jvm.MethodName) prog_1_method_26_code (2 : Nat) (Option.some Jvm.ClassFile.FieldType.int)) ∈ lw_all := lw_g (lw_at lw_m1 145 rfl) rfl
theorem q171 : (Jvm.Cond.instanceMethod ({ cls := "HiddenCaches", name := "storeConditional", desc := "(II)I" } : Jvm.MethodName)) ∈ lw_all := lw_g (lw_at lw_m1 147 rfl) rfl
theorem q172 : (Jvm.Cond.selects "HiddenCaches" ({ cls := "HiddenCaches", name := "storeConditional", desc := "(II)I" } : Jvm.MethodName) ({ cls := "HiddenCaches", name := "storeConditional", desc := "(II)I" } : Jvm.MethodName)) ∈ lw_all := lw_g (lw_at lw_m1 148 rfl) rfl
theorem q173 : (Jvm.Cond.code ({ cls := "HiddenCaches", name := "storeConditional", desc := "(II)I" } : Jvm.MethodName) prog_1_method_27_code (4 : Nat) (Option.some Jvm.ClassFile.FieldType.int)) ∈ lw_all := lw_g (lw_at lw_m1 149 rfl) rfl
theorem q175 : (Jvm.Cond.instanceMethod ({ cls := "HiddenCaches", name := "copy", desc := "(III)I" } : Jvm.MethodName)) ∈ lw_all := lw_g (lw_at lw_m1 151 rfl) rfl
theorem q176 : (Jvm.Cond.selects "HiddenCaches" ({ cls := "HiddenCaches", name := "copy", desc := "(III)I" } : Jvm.MethodName) ({ cls := "HiddenCaches", name := "copy", desc := "(III)I" } : Jvm.MethodName)) ∈ lw_all := lw_g (lw_at lw_m1 152 rfl) rfl
theorem q177 : (Jvm.Cond.code ({ cls := "HiddenCaches", name := "copy", desc := "(III)I" } : Jvm.MethodName) prog_1_method_28_code (6 : Nat) (Option.some Jvm.ClassFile.FieldType.int)) ∈ lw_all := lw_g (lw_at lw_m1 153 rfl) rfl
theorem q179 : (Jvm.Cond.instanceMethod ({ cls := "HiddenCaches", name := "deviceRead", desc := "(I)I" } : Jvm.MethodName)) ∈ lw_all := lw_g (lw_at lw_m1 155 rfl) rfl
theorem q180 : (Jvm.Cond.selects "HiddenCaches" ({ cls := "HiddenCaches", name := "deviceRead", desc := "(I)I" } : Jvm.MethodName) ({ cls := "HiddenCaches", name := "deviceRead", desc := "(I)I" } : Jvm.MethodName)) ∈ lw_all := lw_g (lw_at lw_m1 156 rfl) rfl
theorem q181 : (Jvm.Cond.code ({ cls := "HiddenCaches", name := "deviceRead", desc := "(I)I" } : Jvm.MethodName) prog_1_method_32_code (2 : Nat) (Option.some Jvm.ClassFile.FieldType.int)) ∈ lw_all := lw_g (lw_at lw_m1 157 rfl) rfl
theorem q182 : (Jvm.Cond.methodLink "HiddenCaches" (108 : Nat) ({ cls := "HiddenCaches", name := "deviceWord", desc := "(I)I" } : Jvm.MethodName)) ∈ lw_all := lw_g (lw_at lw_m1 158 rfl) rfl
theorem q183 : (Jvm.Cond.privateMethod ({ cls := "HiddenCaches", name := "deviceWord", desc := "(I)I" } : Jvm.MethodName)) ∈ lw_tbl := lw_at lw_m1 159 rfl
theorem q184 : (Jvm.Cond.instanceMethod ({ cls := "HiddenCaches", name := "deviceWord", desc := "(I)I" } : Jvm.MethodName)) ∈ lw_all := lw_g (lw_at lw_m1 160 rfl) rfl
theorem q185 : (Jvm.Cond.code ({ cls := "HiddenCaches", name := "deviceWord", desc := "(I)I" } : Jvm.MethodName) prog_1_method_30_code (3 : Nat) (Option.some Jvm.ClassFile.FieldType.int)) ∈ lw_all := lw_g (lw_at lw_m1 161 rfl) rfl
theorem q186 : (Jvm.Cond.methodLink "HiddenCaches" (105 : Nat) ({ cls := "HiddenCaches", name := "anyPlace", desc := "(I)I" } : Jvm.MethodName)) ∈ lw_all := lw_g (lw_at lw_m1 162 rfl) rfl
theorem q187 : (Jvm.Cond.privateMethod ({ cls := "HiddenCaches", name := "anyPlace", desc := "(I)I" } : Jvm.MethodName)) ∈ lw_tbl := lw_at lw_m1 163 rfl
theorem q188 : (Jvm.Cond.instanceMethod ({ cls := "HiddenCaches", name := "anyPlace", desc := "(I)I" } : Jvm.MethodName)) ∈ lw_all := lw_g (lw_at lw_m1 164 rfl) rfl
theorem q189 : (Jvm.Cond.code ({ cls := "HiddenCaches", name := "anyPlace", desc := "(I)I" } : Jvm.MethodName) prog_1_method_29_code (4 : Nat) (Option.some Jvm.ClassFile.FieldType.int)) ∈ lw_all := lw_g (lw_at lw_m1 165 rfl) rfl
theorem q191 : (Jvm.Cond.instanceMethod ({ cls := "HiddenCaches", name := "deviceWrite", desc := "(II)I" } : Jvm.MethodName)) ∈ lw_all := lw_g (lw_at lw_m1 167 rfl) rfl
theorem q192 : (Jvm.Cond.selects "HiddenCaches" ({ cls := "HiddenCaches", name := "deviceWrite", desc := "(II)I" } : Jvm.MethodName) ({ cls := "HiddenCaches", name := "deviceWrite", desc := "(II)I" } : Jvm.MethodName)) ∈ lw_all := lw_g (lw_at lw_m1 168 rfl) rfl
theorem q193 : (Jvm.Cond.code ({ cls := "HiddenCaches", name := "deviceWrite", desc := "(II)I" } : Jvm.MethodName) prog_1_method_33_code (3 : Nat) (Option.some Jvm.ClassFile.FieldType.int)) ∈ lw_all := lw_g (lw_at lw_m1 169 rfl) rfl
theorem q194 : (Jvm.Cond.methodLink "HiddenCaches" (111 : Nat) ({ cls := "HiddenCaches", name := "devicePut", desc := "(II)V" } : Jvm.MethodName)) ∈ lw_all := lw_g (lw_at lw_m1 170 rfl) rfl
theorem q195 : (Jvm.Cond.privateMethod ({ cls := "HiddenCaches", name := "devicePut", desc := "(II)V" } : Jvm.MethodName)) ∈ lw_tbl := lw_at lw_m1 171 rfl
theorem q196 : (Jvm.Cond.instanceMethod ({ cls := "HiddenCaches", name := "devicePut", desc := "(II)V" } : Jvm.MethodName)) ∈ lw_all := lw_g (lw_at lw_m1 172 rfl) rfl
theorem q197 : (Jvm.Cond.code ({ cls := "HiddenCaches", name := "devicePut", desc := "(II)V" } : Jvm.MethodName) prog_1_method_31_code (4 : Nat) (Option.none : Option Jvm.ClassFile.FieldType)) ∈ lw_all := lw_g (lw_at lw_m1 173 rfl) rfl
theorem q199 : (Jvm.Cond.instanceMethod ({ cls := "HiddenCaches", name := "deviceFill", desc := "(III)I" } : Jvm.MethodName)) ∈ lw_all := lw_g (lw_at lw_m1 175 rfl) rfl
theorem q200 : (Jvm.Cond.selects "HiddenCaches" ({ cls := "HiddenCaches", name := "deviceFill", desc := "(III)I" } : Jvm.MethodName) ({ cls := "HiddenCaches", name := "deviceFill", desc := "(III)I" } : Jvm.MethodName)) ∈ lw_all := lw_g (lw_at lw_m1 176 rfl) rfl
theorem q201 : (Jvm.Cond.code ({ cls := "HiddenCaches", name := "deviceFill", desc := "(III)I" } : Jvm.MethodName) prog_1_method_34_code (5 : Nat) (Option.some Jvm.ClassFile.FieldType.int)) ∈ lw_all := lw_g (lw_at lw_m1 177 rfl) rfl
theorem q203 : (Jvm.Cond.instanceMethod ({ cls := "HiddenCaches", name := "hint", desc := "(II)I" } : Jvm.MethodName)) ∈ lw_all := lw_g (lw_at lw_m1 179 rfl) rfl
theorem q204 : (Jvm.Cond.selects "HiddenCaches" ({ cls := "HiddenCaches", name := "hint", desc := "(II)I" } : Jvm.MethodName) ({ cls := "HiddenCaches", name := "hint", desc := "(II)I" } : Jvm.MethodName)) ∈ lw_all := lw_g (lw_at lw_m1 180 rfl) rfl
theorem q205 : (Jvm.Cond.code ({ cls := "HiddenCaches", name := "hint", desc := "(II)I" } : Jvm.MethodName) prog_1_method_36_code (5 : Nat) (Option.some Jvm.ClassFile.FieldType.int)) ∈ lw_all := lw_g (lw_at lw_m1 181 rfl) rfl
theorem q206 : (Jvm.Cond.methodLink "HiddenCaches" (114 : Nat) ({ cls := "HiddenCaches", name := "empty", desc := "(I)V" } : Jvm.MethodName)) ∈ lw_all := lw_g (lw_at lw_m1 182 rfl) rfl
theorem q207 : (Jvm.Cond.privateMethod ({ cls := "HiddenCaches", name := "empty", desc := "(I)V" } : Jvm.MethodName)) ∈ lw_tbl := lw_at lw_m1 183 rfl
theorem q208 : (Jvm.Cond.instanceMethod ({ cls := "HiddenCaches", name := "empty", desc := "(I)V" } : Jvm.MethodName)) ∈ lw_all := lw_g (lw_at lw_m1 184 rfl) rfl
theorem q209 : (Jvm.Cond.code ({ cls := "HiddenCaches", name := "empty", desc := "(I)V" } : Jvm.MethodName) prog_1_method_35_code (2 : Nat) (Option.none : Option Jvm.ClassFile.FieldType)) ∈ lw_all := lw_g (lw_at lw_m1 185 rfl) rfl
theorem q211 : (Jvm.Cond.instanceMethod ({ cls := "HiddenCaches", name := "sum", desc := "()I" } : Jvm.MethodName)) ∈ lw_all := lw_g (lw_at lw_m1 187 rfl) rfl
theorem q212 : (Jvm.Cond.selects "HiddenCaches" ({ cls := "HiddenCaches", name := "sum", desc := "()I" } : Jvm.MethodName) ({ cls := "HiddenCaches", name := "sum", desc := "()I" } : Jvm.MethodName)) ∈ lw_all := lw_g (lw_at lw_m1 188 rfl) rfl
theorem q213 : (Jvm.Cond.code ({ cls := "HiddenCaches", name := "sum", desc := "()I" } : Jvm.MethodName) prog_1_method_37_code (3 : Nat) (Option.some Jvm.ClassFile.FieldType.int)) ∈ lw_all := lw_g (lw_at lw_m1 189 rfl) rfl
theorem q215 : (Jvm.Cond.instanceMethod ({ cls := "HiddenCaches", name := "reserved", desc := "()I" } : Jvm.MethodName)) ∈ lw_all := lw_g (lw_at lw_m1 191 rfl) rfl
theorem q216 : (Jvm.Cond.selects "HiddenCaches" ({ cls := "HiddenCaches", name := "reserved", desc := "()I" } : Jvm.MethodName) ({ cls := "HiddenCaches", name := "reserved", desc := "()I" } : Jvm.MethodName)) ∈ lw_all := lw_g (lw_at lw_m1 192 rfl) rfl
theorem q217 : (Jvm.Cond.code ({ cls := "HiddenCaches", name := "reserved", desc := "()I" } : Jvm.MethodName) prog_1_method_38_code (1 : Nat) (Option.some Jvm.ClassFile.FieldType.int)) ∈ lw_all := lw_g (lw_at lw_m1 193 rfl) rfl
theorem in_X1 : ∀ w ∈ wsX10, w ∈ lw_all := lw_in wsX10 [46, 48, 50, 52, 54, 56, 58, 60, 62, 64, 66] (by decide +kernel) (by decide +kernel)
/-! HiddenCachesModel -/
def RX2 : String := "HiddenCachesModel"
def TX2 : u_T := fun k => match k with
  | 0 => ("HiddenCachesModel", "words", "[I", true)
  | _ => ("HiddenCachesModel", "kept", "I", false)
def tyX2 : Nat → FieldType := fun k => match k with
  | 0 => .array .int
  | _ => .int
abbrev wsX20 : List Cond := u_ws RX2 TX2 2
theorem nmX2 : ∀ a, a < 2 → ∀ b, b < 2 → a ≠ b → (TX2 a).2.1 ≠ (TX2 b).2.1 := by decide +kernel
theorem tyX2_ok : ∀ k, k < 2 → parseFieldDescriptor (TX2 k).2.2.1 = some (tyX2 k) := by decide +kernel
abbrev cX2_init : ByteArray := prog_3_method_1_code
def yX2_init : MethodName := ⟨RX2, "<init>", "(I)V"⟩
abbrev cX2_load : ByteArray := prog_3_method_4_code
def yX2_load : MethodName := ⟨RX2, "load", "(I)I"⟩
abbrev cX2_isWord : ByteArray := prog_3_method_2_code
def yX2_isWord : MethodName := ⟨RX2, "isWord", "(I)Z"⟩
abbrev cX2_store : ByteArray := prog_3_method_5_code
def yX2_store : MethodName := ⟨RX2, "store", "(II)I"⟩
abbrev cX2_write : ByteArray := prog_3_method_3_code
def yX2_write : MethodName := ⟨RX2, "write", "(II)V"⟩
abbrev cX2_loadByte : ByteArray := prog_3_method_7_code
def yX2_loadByte : MethodName := ⟨RX2, "loadByte", "(IZ)I"⟩
abbrev cX2_isByte : ByteArray := prog_3_method_6_code
def yX2_isByte : MethodName := ⟨RX2, "isByte", "(I)Z"⟩
abbrev cX2_storeByte : ByteArray := prog_3_method_8_code
def yX2_storeByte : MethodName := ⟨RX2, "storeByte", "(II)I"⟩
abbrev cX2_swap : ByteArray := prog_3_method_9_code
def yX2_swap : MethodName := ⟨RX2, "swap", "(II)I"⟩
abbrev cX2_addTo : ByteArray := prog_3_method_10_code
def yX2_addTo : MethodName := ⟨RX2, "addTo", "(II)I"⟩
abbrev cX2_loadReserved : ByteArray := prog_3_method_11_code
def yX2_loadReserved : MethodName := ⟨RX2, "loadReserved", "(I)I"⟩
abbrev cX2_storeConditional : ByteArray := prog_3_method_12_code
def yX2_storeConditional : MethodName := ⟨RX2, "storeConditional", "(II)I"⟩
abbrev cX2_copy : ByteArray := prog_3_method_13_code
def yX2_copy : MethodName := ⟨RX2, "copy", "(III)I"⟩
abbrev cX2_deviceRead : ByteArray := prog_3_method_14_code
def yX2_deviceRead : MethodName := ⟨RX2, "deviceRead", "(I)I"⟩
abbrev cX2_deviceWrite : ByteArray := prog_3_method_15_code
def yX2_deviceWrite : MethodName := ⟨RX2, "deviceWrite", "(II)I"⟩
abbrev cX2_deviceFill : ByteArray := prog_3_method_16_code
def yX2_deviceFill : MethodName := ⟨RX2, "deviceFill", "(III)I"⟩
abbrev cX2_hint : ByteArray := prog_3_method_17_code
def yX2_hint : MethodName := ⟨RX2, "hint", "(II)I"⟩
abbrev cX2_sum : ByteArray := prog_3_method_18_code
def yX2_sum : MethodName := ⟨RX2, "sum", "()I"⟩
abbrev cX2_reserved : ByteArray := prog_3_method_19_code
def yX2_reserved : MethodName := ⟨RX2, "reserved", "()I"⟩
theorem q26 : (Jvm.Cond.initialized "HiddenCachesModel") ∈ lw_all := lw_g (lw_at lw_m1 2 rfl) rfl
theorem q222 : (Jvm.Cond.instantiable "HiddenCachesModel" (2 : Nat)) ∈ lw_all := lw_g (lw_at lw_m1 198 rfl) rfl
theorem q224 : (Jvm.Cond.instanceMethod ({ cls := "HiddenCachesModel", name := "<init>", desc := "(I)V" } : Jvm.MethodName)) ∈ lw_all := lw_g (lw_at lw_m1 200 rfl) rfl
theorem q225 : (Jvm.Cond.code ({ cls := "HiddenCachesModel", name := "<init>", desc := "(I)V" } : Jvm.MethodName) prog_3_method_1_code (2 : Nat) (Option.none : Option Jvm.ClassFile.FieldType)) ∈ lw_all := lw_g (lw_at lw_m1 201 rfl) rfl
theorem q226 : (Jvm.Cond.methodLink "HiddenCachesModel" (1 : Nat) ({ cls := "java/lang/Object", name := "<init>", desc := "()V" } : Jvm.MethodName)) ∈ lw_all := lw_g (lw_at lw_m1 202 rfl) rfl
theorem q227 : (Jvm.Cond.fieldLink "HiddenCachesModel" (7 : Nat) "HiddenCachesModel" "words" "[I") ∈ lw_all := lw_g (lw_at lw_m1 203 rfl) rfl
theorem q228 : (Jvm.Cond.fieldLink "HiddenCachesModel" (13 : Nat) "HiddenCachesModel" "kept" "I") ∈ lw_all := lw_g (lw_at lw_m1 204 rfl) rfl
theorem q229 : (Jvm.Cond.laysFinal "HiddenCachesModel" "HiddenCachesModel" "words" "[I") ∈ lw_all := lw_g (lw_at lw_m1 205 rfl) rfl
theorem q230 : (Jvm.Cond.soleField "HiddenCachesModel" "words") ∈ lw_all := lw_g (lw_at lw_m1 206 rfl) rfl
theorem q231 : (Jvm.Cond.lays "HiddenCachesModel" "HiddenCachesModel" "kept" "I") ∈ lw_all := lw_g (lw_at lw_m1 207 rfl) rfl
theorem q232 : (Jvm.Cond.soleField "HiddenCachesModel" "kept") ∈ lw_all := lw_g (lw_at lw_m1 208 rfl) rfl
theorem q233 : (Jvm.Cond.superclass "HiddenCachesModel" "java/lang/Object") ∈ lw_all := lw_g (lw_at lw_m1 209 rfl) rfl
theorem q235 : (Jvm.Cond.instanceMethod ({ cls := "HiddenCachesModel", name := "load", desc := "(I)I" } : Jvm.MethodName)) ∈ lw_all := lw_g (lw_at lw_m1 211 rfl) rfl
theorem q236 : (Jvm.Cond.selects "HiddenCachesModel" ({ cls := "HiddenCachesModel", name := "load", desc := "(I)I" } : Jvm.MethodName) ({ cls := "HiddenCachesModel", name := "load", desc := "(I)I" } : Jvm.MethodName)) ∈ lw_all := lw_g (lw_at lw_m1 212 rfl) rfl
theorem q237 : (Jvm.Cond.code ({ cls := "HiddenCachesModel", name := "load", desc := "(I)I" } : Jvm.MethodName) prog_3_method_4_code (2 : Nat) (Option.some Jvm.ClassFile.FieldType.int)) ∈ lw_all := lw_g (lw_at lw_m1 213 rfl) rfl
theorem q238 : (Jvm.Cond.methodLink "HiddenCachesModel" (17 : Nat) ({ cls := "HiddenCachesModel", name := "isWord", desc := "(I)Z" } : Jvm.MethodName)) ∈ lw_all := lw_g (lw_at lw_m1 214 rfl) rfl
theorem q239 : (Jvm.Cond.privateMethod ({ cls := "HiddenCachesModel", name := "isWord", desc := "(I)Z" } : Jvm.MethodName)) ∈ lw_tbl := lw_at lw_m1 215 rfl
theorem q240 : (Jvm.Cond.instanceMethod ({ cls := "HiddenCachesModel", name := "isWord", desc := "(I)Z" } : Jvm.MethodName)) ∈ lw_all := lw_g (lw_at lw_m1 216 rfl) rfl
theorem q241 : (Jvm.Cond.code ({ cls := "HiddenCachesModel", name := "isWord", desc := "(I)Z" } : Jvm.MethodName) prog_3_method_2_code (2 : Nat) (Option.some Jvm.ClassFile.FieldType.boolean)) ∈ lw_all := lw_g (lw_at lw_m1 217 rfl) rfl
theorem q243 : (Jvm.Cond.instanceMethod ({ cls := "HiddenCachesModel", name := "store", desc := "(II)I" } : Jvm.MethodName)) ∈ lw_all := lw_g (lw_at lw_m1 219 rfl) rfl
theorem q244 : (Jvm.Cond.selects "HiddenCachesModel" ({ cls := "HiddenCachesModel", name := "store", desc := "(II)I" } : Jvm.MethodName) ({ cls := "HiddenCachesModel", name := "store", desc := "(II)I" } : Jvm.MethodName)) ∈ lw_all := lw_g (lw_at lw_m1 220 rfl) rfl
theorem q245 : (Jvm.Cond.code ({ cls := "HiddenCachesModel", name := "store", desc := "(II)I" } : Jvm.MethodName) prog_3_method_5_code (3 : Nat) (Option.some Jvm.ClassFile.FieldType.int)) ∈ lw_all := lw_g (lw_at lw_m1 221 rfl) rfl
theorem q246 : (Jvm.Cond.methodLink "HiddenCachesModel" (21 : Nat) ({ cls := "HiddenCachesModel", name := "write", desc := "(II)V" } : Jvm.MethodName)) ∈ lw_all := lw_g (lw_at lw_m1 222 rfl) rfl
theorem q247 : (Jvm.Cond.privateMethod ({ cls := "HiddenCachesModel", name := "write", desc := "(II)V" } : Jvm.MethodName)) ∈ lw_tbl := lw_at lw_m1 223 rfl
theorem q248 : (Jvm.Cond.instanceMethod ({ cls := "HiddenCachesModel", name := "write", desc := "(II)V" } : Jvm.MethodName)) ∈ lw_all := lw_g (lw_at lw_m1 224 rfl) rfl
theorem q249 : (Jvm.Cond.code ({ cls := "HiddenCachesModel", name := "write", desc := "(II)V" } : Jvm.MethodName) prog_3_method_3_code (3 : Nat) (Option.none : Option Jvm.ClassFile.FieldType)) ∈ lw_all := lw_g (lw_at lw_m1 225 rfl) rfl
theorem q251 : (Jvm.Cond.instanceMethod ({ cls := "HiddenCachesModel", name := "loadByte", desc := "(IZ)I" } : Jvm.MethodName)) ∈ lw_all := lw_g (lw_at lw_m1 227 rfl) rfl
theorem q252 : (Jvm.Cond.selects "HiddenCachesModel" ({ cls := "HiddenCachesModel", name := "loadByte", desc := "(IZ)I" } : Jvm.MethodName) ({ cls := "HiddenCachesModel", name := "loadByte", desc := "(IZ)I" } : Jvm.MethodName)) ∈ lw_all := lw_g (lw_at lw_m1 228 rfl) rfl
theorem q253 : (Jvm.Cond.code ({ cls := "HiddenCachesModel", name := "loadByte", desc := "(IZ)I" } : Jvm.MethodName) prog_3_method_7_code (4 : Nat) (Option.some Jvm.ClassFile.FieldType.int)) ∈ lw_all := lw_g (lw_at lw_m1 229 rfl) rfl
theorem q254 : (Jvm.Cond.methodLink "HiddenCachesModel" (25 : Nat) ({ cls := "HiddenCachesModel", name := "isByte", desc := "(I)Z" } : Jvm.MethodName)) ∈ lw_all := lw_g (lw_at lw_m1 230 rfl) rfl
theorem q255 : (Jvm.Cond.privateMethod ({ cls := "HiddenCachesModel", name := "isByte", desc := "(I)Z" } : Jvm.MethodName)) ∈ lw_tbl := lw_at lw_m1 231 rfl
theorem q256 : (Jvm.Cond.instanceMethod ({ cls := "HiddenCachesModel", name := "isByte", desc := "(I)Z" } : Jvm.MethodName)) ∈ lw_all := lw_g (lw_at lw_m1 232 rfl) rfl
theorem q257 : (Jvm.Cond.code ({ cls := "HiddenCachesModel", name := "isByte", desc := "(I)Z" } : Jvm.MethodName) prog_3_method_6_code (2 : Nat) (Option.some Jvm.ClassFile.FieldType.boolean)) ∈ lw_all := lw_g (lw_at lw_m1 233 rfl) rfl
theorem q259 : (Jvm.Cond.instanceMethod ({ cls := "HiddenCachesModel", name := "storeByte", desc := "(II)I" } : Jvm.MethodName)) ∈ lw_all := lw_g (lw_at lw_m1 235 rfl) rfl
theorem q260 : (Jvm.Cond.selects "HiddenCachesModel" ({ cls := "HiddenCachesModel", name := "storeByte", desc := "(II)I" } : Jvm.MethodName) ({ cls := "HiddenCachesModel", name := "storeByte", desc := "(II)I" } : Jvm.MethodName)) ∈ lw_all := lw_g (lw_at lw_m1 236 rfl) rfl
theorem q261 : (Jvm.Cond.code ({ cls := "HiddenCachesModel", name := "storeByte", desc := "(II)I" } : Jvm.MethodName) prog_3_method_8_code (5 : Nat) (Option.some Jvm.ClassFile.FieldType.int)) ∈ lw_all := lw_g (lw_at lw_m1 237 rfl) rfl
theorem q263 : (Jvm.Cond.instanceMethod ({ cls := "HiddenCachesModel", name := "swap", desc := "(II)I" } : Jvm.MethodName)) ∈ lw_all := lw_g (lw_at lw_m1 239 rfl) rfl
theorem q264 : (Jvm.Cond.selects "HiddenCachesModel" ({ cls := "HiddenCachesModel", name := "swap", desc := "(II)I" } : Jvm.MethodName) ({ cls := "HiddenCachesModel", name := "swap", desc := "(II)I" } : Jvm.MethodName)) ∈ lw_all := lw_g (lw_at lw_m2 0 rfl) rfl
theorem q265 : (Jvm.Cond.code ({ cls := "HiddenCachesModel", name := "swap", desc := "(II)I" } : Jvm.MethodName) prog_3_method_9_code (4 : Nat) (Option.some Jvm.ClassFile.FieldType.int)) ∈ lw_all := lw_g (lw_at lw_m2 1 rfl) rfl
theorem q266 : (Jvm.Cond.methodLink "HiddenCachesModel" (28 : Nat) ({ cls := "HiddenCachesModel", name := "load", desc := "(I)I" } : Jvm.MethodName)) ∈ lw_all := lw_g (lw_at lw_m2 2 rfl) rfl
theorem q267 : (Jvm.Cond.methodLink "HiddenCachesModel" (32 : Nat) ({ cls := "HiddenCachesModel", name := "store", desc := "(II)I" } : Jvm.MethodName)) ∈ lw_all := lw_g (lw_at lw_m2 3 rfl) rfl
theorem q269 : (Jvm.Cond.instanceMethod ({ cls := "HiddenCachesModel", name := "addTo", desc := "(II)I" } : Jvm.MethodName)) ∈ lw_all := lw_g (lw_at lw_m2 5 rfl) rfl
theorem q270 : (Jvm.Cond.selects "HiddenCachesModel" ({ cls := "HiddenCachesModel", name := "addTo", desc := "(II)I" } : Jvm.MethodName) ({ cls := "HiddenCachesModel", name := "addTo", desc := "(II)I" } : Jvm.MethodName)) ∈ lw_all := lw_g (lw_at lw_m2 6 rfl) rfl
theorem q271 : (Jvm.Cond.code ({ cls := "HiddenCachesModel", name := "addTo", desc := "(II)I" } : Jvm.MethodName) prog_3_method_10_code (3 : Nat) (Option.some Jvm.ClassFile.FieldType.int)) ∈ lw_all := lw_g (lw_at lw_m2 7 rfl) rfl
theorem q273 : (Jvm.Cond.instanceMethod ({ cls := "HiddenCachesModel", name := "loadReserved", desc := "(I)I" } : Jvm.MethodName)) ∈ lw_all := lw_g (lw_at lw_m2 9 rfl) rfl
theorem q274 : (Jvm.Cond.selects "HiddenCachesModel" ({ cls := "HiddenCachesModel", name := "loadReserved", desc := "(I)I" } : Jvm.MethodName) ({ cls := "HiddenCachesModel", name := "loadReserved", desc := "(I)I" } : Jvm.MethodName)) ∈ lw_all := lw_g (lw_at lw_m2 10 rfl) rfl
theorem q275 : (Jvm.Cond.code ({ cls := "HiddenCachesModel", name := "loadReserved", desc := "(I)I" } : Jvm.MethodName) prog_3_method_11_code (2 : Nat) (Option.some Jvm.ClassFile.FieldType.int)) ∈ lw_all := lw_g (lw_at lw_m2 11 rfl) rfl
theorem q277 : (Jvm.Cond.instanceMethod ({ cls := "HiddenCachesModel", name := "storeConditional", desc := "(II)I" } : Jvm.MethodName)) ∈ lw_all := lw_g (lw_at lw_m2 13 rfl) rfl
theorem q278 : (Jvm.Cond.selects "HiddenCachesModel" ({ cls := "HiddenCachesModel", name := "storeConditional", desc := "(II)I" } : Jvm.MethodName) ({ cls := "HiddenCachesModel", name := "storeConditional", desc := "(II)I" } : Jvm.MethodName)) ∈ lw_all := lw_g (lw_at lw_m2 14 rfl) rfl
theorem q279 : (Jvm.Cond.code ({ cls := "HiddenCachesModel", name := "storeConditional", desc := "(II)I" } : Jvm.MethodName) prog_3_method_12_code (4 : Nat) (Option.some Jvm.ClassFile.FieldType.int)) ∈ lw_all := lw_g (lw_at lw_m2 15 rfl) rfl
theorem q281 : (Jvm.Cond.instanceMethod ({ cls := "HiddenCachesModel", name := "copy", desc := "(III)I" } : Jvm.MethodName)) ∈ lw_all := lw_g (lw_at lw_m2 17 rfl) rfl
theorem q282 : (Jvm.Cond.selects "HiddenCachesModel" ({ cls := "HiddenCachesModel", name := "copy", desc := "(III)I" } : Jvm.MethodName) ({ cls := "HiddenCachesModel", name := "copy", desc := "(III)I" } : Jvm.MethodName)) ∈ lw_all := lw_g (lw_at lw_m2 18 rfl) rfl
theorem q283 : (Jvm.Cond.code ({ cls := "HiddenCachesModel", name := "copy", desc := "(III)I" } : Jvm.MethodName) prog_3_method_13_code (5 : Nat) (Option.some Jvm.ClassFile.FieldType.int)) ∈ lw_all := lw_g (lw_at lw_m2 19 rfl) rfl
theorem q285 : (Jvm.Cond.instanceMethod ({ cls := "HiddenCachesModel", name := "deviceRead", desc := "(I)I" } : Jvm.MethodName)) ∈ lw_all := lw_g (lw_at lw_m2 21 rfl) rfl
theorem q286 : (Jvm.Cond.selects "HiddenCachesModel" ({ cls := "HiddenCachesModel", name := "deviceRead", desc := "(I)I" } : Jvm.MethodName) ({ cls := "HiddenCachesModel", name := "deviceRead", desc := "(I)I" } : Jvm.MethodName)) ∈ lw_all := lw_g (lw_at lw_m2 22 rfl) rfl
theorem q287 : (Jvm.Cond.code ({ cls := "HiddenCachesModel", name := "deviceRead", desc := "(I)I" } : Jvm.MethodName) prog_3_method_14_code (2 : Nat) (Option.some Jvm.ClassFile.FieldType.int)) ∈ lw_all := lw_g (lw_at lw_m2 23 rfl) rfl
theorem q289 : (Jvm.Cond.instanceMethod ({ cls := "HiddenCachesModel", name := "deviceWrite", desc := "(II)I" } : Jvm.MethodName)) ∈ lw_all := lw_g (lw_at lw_m2 25 rfl) rfl
theorem q290 : (Jvm.Cond.selects "HiddenCachesModel" ({ cls := "HiddenCachesModel", name := "deviceWrite", desc := "(II)I" } : Jvm.MethodName) ({ cls := "HiddenCachesModel", name := "deviceWrite", desc := "(II)I" } : Jvm.MethodName)) ∈ lw_all := lw_g (lw_at lw_m2 26 rfl) rfl
theorem q291 : (Jvm.Cond.code ({ cls := "HiddenCachesModel", name := "deviceWrite", desc := "(II)I" } : Jvm.MethodName) prog_3_method_15_code (3 : Nat) (Option.some Jvm.ClassFile.FieldType.int)) ∈ lw_all := lw_g (lw_at lw_m2 27 rfl) rfl
theorem q293 : (Jvm.Cond.instanceMethod ({ cls := "HiddenCachesModel", name := "deviceFill", desc := "(III)I" } : Jvm.MethodName)) ∈ lw_all := lw_g (lw_at lw_m2 29 rfl) rfl
theorem q294 : (Jvm.Cond.selects "HiddenCachesModel" ({ cls := "HiddenCachesModel", name := "deviceFill", desc := "(III)I" } : Jvm.MethodName) ({ cls := "HiddenCachesModel", name := "deviceFill", desc := "(III)I" } : Jvm.MethodName)) ∈ lw_all := lw_g (lw_at lw_m2 30 rfl) rfl
theorem q295 : (Jvm.Cond.code ({ cls := "HiddenCachesModel", name := "deviceFill", desc := "(III)I" } : Jvm.MethodName) prog_3_method_16_code (5 : Nat) (Option.some Jvm.ClassFile.FieldType.int)) ∈ lw_all := lw_g (lw_at lw_m2 31 rfl) rfl
theorem q297 : (Jvm.Cond.instanceMethod ({ cls := "HiddenCachesModel", name := "hint", desc := "(II)I" } : Jvm.MethodName)) ∈ lw_all := lw_g (lw_at lw_m2 33 rfl) rfl
theorem q298 : (Jvm.Cond.selects "HiddenCachesModel" ({ cls := "HiddenCachesModel", name := "hint", desc := "(II)I" } : Jvm.MethodName) ({ cls := "HiddenCachesModel", name := "hint", desc := "(II)I" } : Jvm.MethodName)) ∈ lw_all := lw_g (lw_at lw_m2 34 rfl) rfl
theorem q299 : (Jvm.Cond.code ({ cls := "HiddenCachesModel", name := "hint", desc := "(II)I" } : Jvm.MethodName) prog_3_method_17_code (3 : Nat) (Option.some Jvm.ClassFile.FieldType.int)) ∈ lw_all := lw_g (lw_at lw_m2 35 rfl) rfl
theorem q301 : (Jvm.Cond.instanceMethod ({ cls := "HiddenCachesModel", name := "sum", desc := "()I" } : Jvm.MethodName)) ∈ lw_all := lw_g (lw_at lw_m2 37 rfl) rfl
theorem q302 : (Jvm.Cond.selects "HiddenCachesModel" ({ cls := "HiddenCachesModel", name := "sum", desc := "()I" } : Jvm.MethodName) ({ cls := "HiddenCachesModel", name := "sum", desc := "()I" } : Jvm.MethodName)) ∈ lw_all := lw_g (lw_at lw_m2 38 rfl) rfl
theorem q303 : (Jvm.Cond.code ({ cls := "HiddenCachesModel", name := "sum", desc := "()I" } : Jvm.MethodName) prog_3_method_18_code (3 : Nat) (Option.some Jvm.ClassFile.FieldType.int)) ∈ lw_all := lw_g (lw_at lw_m2 39 rfl) rfl
theorem q305 : (Jvm.Cond.instanceMethod ({ cls := "HiddenCachesModel", name := "reserved", desc := "()I" } : Jvm.MethodName)) ∈ lw_all := lw_g (lw_at lw_m2 41 rfl) rfl
theorem q306 : (Jvm.Cond.selects "HiddenCachesModel" ({ cls := "HiddenCachesModel", name := "reserved", desc := "()I" } : Jvm.MethodName) ({ cls := "HiddenCachesModel", name := "reserved", desc := "()I" } : Jvm.MethodName)) ∈ lw_all := lw_g (lw_at lw_m2 42 rfl) rfl
theorem q307 : (Jvm.Cond.code ({ cls := "HiddenCachesModel", name := "reserved", desc := "()I" } : Jvm.MethodName) prog_3_method_19_code (1 : Nat) (Option.some Jvm.ClassFile.FieldType.int)) ∈ lw_all := lw_g (lw_at lw_m2 43 rfl) rfl
theorem in_X2 : ∀ w ∈ wsX20, w ∈ lw_all := lw_in wsX20 [229, 231] (by decide +kernel) (by decide +kernel)
/-! the law's own entry -/
abbrev cL_law : ByteArray := code
theorem q69 : (Jvm.Cond.arrayClass Jvm.ClassFile.FieldType.int) ∈ lw_all := lw_g (lw_at lw_m1 45 rfl) rfl
theorem q70 : (Jvm.Cond.arrayClass Jvm.ClassFile.FieldType.boolean) ∈ lw_all := lw_g (lw_at lw_m1 46 rfl) rfl
end
section
set_option maxRecDepth 100000
theorem dX1_init_0 : decode cX1_init 0 = .ok (.aload_n 0, 1) := by decide +kernel
theorem dX1_init_1 : decode cX1_init 1 = .ok (.invokespecial 1, 3) := by decide +kernel
theorem dX1_init_4 : decode cX1_init 4 = .ok (.aload_n 0, 1) := by decide +kernel
theorem dX1_init_5 : decode cX1_init 5 = .ok (.sipush 256, 3) := by decide +kernel
theorem dX1_init_8 : decode cX1_init 8 = .ok (.newarray .int, 2) := by decide +kernel
theorem dX1_init_10 : decode cX1_init 10 = .ok (.putfield 7, 3) := by decide +kernel
theorem dX1_init_13 : decode cX1_init 13 = .ok (.aload_n 0, 1) := by decide +kernel
theorem dX1_init_14 : decode cX1_init 14 = .ok (.bipush 26, 2) := by decide +kernel
theorem dX1_init_16 : decode cX1_init 16 = .ok (.newarray .int, 2) := by decide +kernel
theorem dX1_init_18 : decode cX1_init 18 = .ok (.putfield 13, 3) := by decide +kernel
theorem dX1_init_21 : decode cX1_init 21 = .ok (.aload_n 0, 1) := by decide +kernel
theorem dX1_init_22 : decode cX1_init 22 = .ok (.bipush 26, 2) := by decide +kernel
theorem dX1_init_24 : decode cX1_init 24 = .ok (.newarray .boolean, 2) := by decide +kernel
theorem dX1_init_26 : decode cX1_init 26 = .ok (.putfield 16, 3) := by decide +kernel
theorem dX1_init_29 : decode cX1_init 29 = .ok (.aload_n 0, 1) := by decide +kernel
theorem dX1_init_30 : decode cX1_init 30 = .ok (.bipush 26, 2) := by decide +kernel
theorem dX1_init_32 : decode cX1_init 32 = .ok (.newarray .int, 2) := by decide +kernel
theorem dX1_init_34 : decode cX1_init 34 = .ok (.putfield 20, 3) := by decide +kernel
theorem dX1_init_37 : decode cX1_init 37 = .ok (.aload_n 0, 1) := by decide +kernel
theorem dX1_init_38 : decode cX1_init 38 = .ok (.bipush 104, 2) := by decide +kernel
theorem dX1_init_40 : decode cX1_init 40 = .ok (.newarray .int, 2) := by decide +kernel
theorem dX1_init_42 : decode cX1_init 42 = .ok (.putfield 23, 3) := by decide +kernel
theorem dX1_init_45 : decode cX1_init 45 = .ok (.aload_n 0, 1) := by decide +kernel
theorem dX1_init_46 : decode cX1_init 46 = .ok (.iload_n 1, 1) := by decide +kernel
theorem dX1_init_47 : decode cX1_init 47 = .ok (.iconst 1, 1) := by decide +kernel
theorem dX1_init_48 : decode cX1_init 48 = .ok (.iand, 1) := by decide +kernel
theorem dX1_init_49 : decode cX1_init 49 = .ok (.putfield 26, 3) := by decide +kernel
theorem dX1_init_52 : decode cX1_init 52 = .ok (.aload_n 0, 1) := by decide +kernel
theorem dX1_init_53 : decode cX1_init 53 = .ok (.iload_n 1, 1) := by decide +kernel
theorem dX1_init_54 : decode cX1_init 54 = .ok (.iconst 1, 1) := by decide +kernel
theorem dX1_init_55 : decode cX1_init 55 = .ok (.ishr, 1) := by decide +kernel
theorem dX1_init_56 : decode cX1_init 56 = .ok (.iconst 1, 1) := by decide +kernel
theorem dX1_init_57 : decode cX1_init 57 = .ok (.iand, 1) := by decide +kernel
theorem dX1_init_58 : decode cX1_init 58 = .ok (.putfield 30, 3) := by decide +kernel
theorem dX1_init_61 : decode cX1_init 61 = .ok (.aload_n 0, 1) := by decide +kernel
theorem dX1_init_62 : decode cX1_init 62 = .ok (.iload_n 1, 1) := by decide +kernel
theorem dX1_init_63 : decode cX1_init 63 = .ok (.iconst 2, 1) := by decide +kernel
theorem dX1_init_64 : decode cX1_init 64 = .ok (.ishr, 1) := by decide +kernel
theorem dX1_init_65 : decode cX1_init 65 = .ok (.iconst 1, 1) := by decide +kernel
theorem dX1_init_66 : decode cX1_init 66 = .ok (.iand, 1) := by decide +kernel
theorem dX1_init_67 : decode cX1_init 67 = .ok (.iconst 1, 1) := by decide +kernel
theorem dX1_init_68 : decode cX1_init 68 = .ok (.if_icmp .ne 7, 3) := by decide +kernel
theorem dX1_init_71 : decode cX1_init 71 = .ok (.iconst 1, 1) := by decide +kernel
theorem dX1_init_72 : decode cX1_init 72 = .ok (.goto 4, 3) := by decide +kernel
theorem dX1_init_75 : decode cX1_init 75 = .ok (.iconst 0, 1) := by decide +kernel
theorem dX1_init_76 : decode cX1_init 76 = .ok (.putfield 33, 3) := by decide +kernel
theorem dX1_init_79 : decode cX1_init 79 = .ok (.aload_n 0, 1) := by decide +kernel
theorem dX1_init_80 : decode cX1_init 80 = .ok (.iconst (-1), 1) := by decide +kernel
theorem dX1_init_81 : decode cX1_init 81 = .ok (.putfield 37, 3) := by decide +kernel
theorem dX1_init_84 : decode cX1_init 84 = .ok (.aload_n 0, 1) := by decide +kernel
theorem dX1_init_85 : decode cX1_init 85 = .ok (.iconst (-1), 1) := by decide +kernel
theorem dX1_init_86 : decode cX1_init 86 = .ok (.putfield 40, 3) := by decide +kernel
theorem dX1_init_89 : decode cX1_init 89 = .ok (.iconst 0, 1) := by decide +kernel
theorem dX1_init_90 : decode cX1_init 90 = .ok (.istore_n 2, 1) := by decide +kernel
theorem dX1_init_91 : decode cX1_init 91 = .ok (.iload_n 2, 1) := by decide +kernel
theorem dX1_init_92 : decode cX1_init 92 = .ok (.bipush 26, 2) := by decide +kernel
theorem dX1_init_94 : decode cX1_init 94 = .ok (.if_icmp .ge 16, 3) := by decide +kernel
theorem dX1_init_97 : decode cX1_init 97 = .ok (.aload_n 0, 1) := by decide +kernel
theorem dX1_init_98 : decode cX1_init 98 = .ok (.getfield 13, 3) := by decide +kernel
theorem dX1_init_101 : decode cX1_init 101 = .ok (.iload_n 2, 1) := by decide +kernel
theorem dX1_init_102 : decode cX1_init 102 = .ok (.iconst (-1), 1) := by decide +kernel
theorem dX1_init_103 : decode cX1_init 103 = .ok (.iastore, 1) := by decide +kernel
theorem dX1_init_104 : decode cX1_init 104 = .ok (.iinc 2 1, 3) := by decide +kernel
theorem dX1_init_107 : decode cX1_init 107 = .ok (.goto (-16), 3) := by decide +kernel
theorem dX1_init_110 : decode cX1_init 110 = .ok (.return_, 1) := by decide +kernel
theorem dX1_load_0 : decode cX1_load 0 = .ok (.iload_n 1, 1) := by decide +kernel
theorem dX1_load_1 : decode cX1_load 1 = .ok (.invokestatic 95, 3) := by decide +kernel
theorem dX1_load_4 : decode cX1_load 4 = .ok (.ifCond .eq 7, 3) := by decide +kernel
theorem dX1_load_7 : decode cX1_load 7 = .ok (.iconst (-1), 1) := by decide +kernel
theorem dX1_load_8 : decode cX1_load 8 = .ok (.goto 8, 3) := by decide +kernel
theorem dX1_load_11 : decode cX1_load 11 = .ok (.aload_n 0, 1) := by decide +kernel
theorem dX1_load_12 : decode cX1_load 12 = .ok (.iload_n 1, 1) := by decide +kernel
theorem dX1_load_13 : decode cX1_load 13 = .ok (.invokevirtual 99, 3) := by decide +kernel
theorem dX1_load_16 : decode cX1_load 16 = .ok (.ireturn, 1) := by decide +kernel
theorem dX1_bad_0 : decode cX1_bad 0 = .ok (.iload_n 0, 1) := by decide +kernel
theorem dX1_bad_1 : decode cX1_bad 1 = .ok (.ifCond .lt 10, 3) := by decide +kernel
theorem dX1_bad_4 : decode cX1_bad 4 = .ok (.iload_n 0, 1) := by decide +kernel
theorem dX1_bad_5 : decode cX1_bad 5 = .ok (.sipush 256, 3) := by decide +kernel
theorem dX1_bad_8 : decode cX1_bad 8 = .ok (.if_icmp .lt 7, 3) := by decide +kernel
theorem dX1_bad_11 : decode cX1_bad 11 = .ok (.iconst 1, 1) := by decide +kernel
theorem dX1_bad_12 : decode cX1_bad 12 = .ok (.goto 4, 3) := by decide +kernel
theorem dX1_bad_15 : decode cX1_bad 15 = .ok (.iconst 0, 1) := by decide +kernel
theorem dX1_bad_16 : decode cX1_bad 16 = .ok (.ireturn, 1) := by decide +kernel
theorem dX1_read_0 : decode cX1_read 0 = .ok (.aload_n 0, 1) := by decide +kernel
theorem dX1_read_1 : decode cX1_read 1 = .ok (.iload_n 1, 1) := by decide +kernel
theorem dX1_read_2 : decode cX1_read 2 = .ok (.invokevirtual 92, 3) := by decide +kernel
theorem dX1_read_5 : decode cX1_read 5 = .ok (.istore_n 2, 1) := by decide +kernel
theorem dX1_read_6 : decode cX1_read 6 = .ok (.aload_n 0, 1) := by decide +kernel
theorem dX1_read_7 : decode cX1_read 7 = .ok (.getfield 23, 3) := by decide +kernel
theorem dX1_read_10 : decode cX1_read 10 = .ok (.iload_n 2, 1) := by decide +kernel
theorem dX1_read_11 : decode cX1_read 11 = .ok (.iaload, 1) := by decide +kernel
theorem dX1_read_12 : decode cX1_read 12 = .ok (.ireturn, 1) := by decide +kernel
theorem dX1_placeOf_0 : decode cX1_placeOf 0 = .ok (.aload_n 0, 1) := by decide +kernel
theorem dX1_placeOf_1 : decode cX1_placeOf 1 = .ok (.iload_n 1, 1) := by decide +kernel
theorem dX1_placeOf_2 : decode cX1_placeOf 2 = .ok (.iconst 2, 1) := by decide +kernel
theorem dX1_placeOf_3 : decode cX1_placeOf 3 = .ok (.ishr, 1) := by decide +kernel
theorem dX1_placeOf_4 : decode cX1_placeOf 4 = .ok (.invokevirtual 89, 3) := by decide +kernel
theorem dX1_placeOf_7 : decode cX1_placeOf 7 = .ok (.istore_n 2, 1) := by decide +kernel
theorem dX1_placeOf_8 : decode cX1_placeOf 8 = .ok (.iload_n 2, 1) := by decide +kernel
theorem dX1_placeOf_9 : decode cX1_placeOf 9 = .ok (.iconst 4, 1) := by decide +kernel
theorem dX1_placeOf_10 : decode cX1_placeOf 10 = .ok (.imul, 1) := by decide +kernel
theorem dX1_placeOf_11 : decode cX1_placeOf 11 = .ok (.iload_n 1, 1) := by decide +kernel
theorem dX1_placeOf_12 : decode cX1_placeOf 12 = .ok (.iconst 3, 1) := by decide +kernel
theorem dX1_placeOf_13 : decode cX1_placeOf 13 = .ok (.iand, 1) := by decide +kernel
theorem dX1_placeOf_14 : decode cX1_placeOf 14 = .ok (.iadd, 1) := by decide +kernel
theorem dX1_placeOf_15 : decode cX1_placeOf 15 = .ok (.ireturn, 1) := by decide +kernel
theorem dX1_bring_0 : decode cX1_bring 0 = .ok (.aload_n 0, 1) := by decide +kernel
theorem dX1_bring_1 : decode cX1_bring 1 = .ok (.iload_n 1, 1) := by decide +kernel
theorem dX1_bring_2 : decode cX1_bring 2 = .ok (.invokevirtual 67, 3) := by decide +kernel
theorem dX1_bring_5 : decode cX1_bring 5 = .ok (.istore_n 2, 1) := by decide +kernel
theorem dX1_bring_6 : decode cX1_bring 6 = .ok (.aload_n 0, 1) := by decide +kernel
theorem dX1_bring_7 : decode cX1_bring 7 = .ok (.iload_n 2, 1) := by decide +kernel
theorem dX1_bring_8 : decode cX1_bring 8 = .ok (.iload_n 1, 1) := by decide +kernel
theorem dX1_bring_9 : decode cX1_bring 9 = .ok (.invokevirtual 73, 3) := by decide +kernel
theorem dX1_bring_12 : decode cX1_bring 12 = .ok (.istore_n 3, 1) := by decide +kernel
theorem dX1_bring_13 : decode cX1_bring 13 = .ok (.iload_n 3, 1) := by decide +kernel
theorem dX1_bring_14 : decode cX1_bring 14 = .ok (.ifCond .lt 10, 3) := by decide +kernel
theorem dX1_bring_17 : decode cX1_bring 17 = .ok (.aload_n 0, 1) := by decide +kernel
theorem dX1_bring_18 : decode cX1_bring 18 = .ok (.iload_n 3, 1) := by decide +kernel
theorem dX1_bring_19 : decode cX1_bring 19 = .ok (.invokevirtual 46, 3) := by decide +kernel
theorem dX1_bring_22 : decode cX1_bring 22 = .ok (.iload_n 3, 1) := by decide +kernel
theorem dX1_bring_23 : decode cX1_bring 23 = .ok (.ireturn, 1) := by decide +kernel
theorem dX1_bring_24 : decode cX1_bring 24 = .ok (.aload_n 0, 1) := by decide +kernel
theorem dX1_bring_25 : decode cX1_bring 25 = .ok (.iload_n 1, 1) := by decide +kernel
theorem dX1_bring_26 : decode cX1_bring 26 = .ok (.invokevirtual 77, 3) := by decide +kernel
theorem dX1_bring_29 : decode cX1_bring 29 = .ok (.istore 4, 2) := by decide +kernel
theorem dX1_bring_31 : decode cX1_bring 31 = .ok (.aload_n 0, 1) := by decide +kernel
theorem dX1_bring_32 : decode cX1_bring 32 = .ok (.iload_n 1, 1) := by decide +kernel
theorem dX1_bring_33 : decode cX1_bring 33 = .ok (.invokevirtual 80, 3) := by decide +kernel
theorem dX1_bring_36 : decode cX1_bring 36 = .ok (.istore 5, 2) := by decide +kernel
theorem dX1_bring_38 : decode cX1_bring 38 = .ok (.iload 5, 2) := by decide +kernel
theorem dX1_bring_40 : decode cX1_bring 40 = .ok (.ifCond .lt 14, 3) := by decide +kernel
theorem dX1_bring_43 : decode cX1_bring 43 = .ok (.aload_n 0, 1) := by decide +kernel
theorem dX1_bring_44 : decode cX1_bring 44 = .ok (.iload 5, 2) := by decide +kernel
theorem dX1_bring_46 : decode cX1_bring 46 = .ok (.iload 4, 2) := by decide +kernel
theorem dX1_bring_48 : decode cX1_bring 48 = .ok (.invokevirtual 60, 3) := by decide +kernel
theorem dX1_bring_51 : decode cX1_bring 51 = .ok (.goto 10, 3) := by decide +kernel
theorem dX1_bring_54 : decode cX1_bring 54 = .ok (.aload_n 0, 1) := by decide +kernel
theorem dX1_bring_55 : decode cX1_bring 55 = .ok (.iload 4, 2) := by decide +kernel
theorem dX1_bring_57 : decode cX1_bring 57 = .ok (.iload_n 1, 1) := by decide +kernel
theorem dX1_bring_58 : decode cX1_bring 58 = .ok (.invokevirtual 83, 3) := by decide +kernel
theorem dX1_bring_61 : decode cX1_bring 61 = .ok (.aload_n 0, 1) := by decide +kernel
theorem dX1_bring_62 : decode cX1_bring 62 = .ok (.getfield 33, 3) := by decide +kernel
theorem dX1_bring_65 : decode cX1_bring 65 = .ok (.ifCond .eq 25, 3) := by decide +kernel
theorem dX1_bring_68 : decode cX1_bring 68 = .ok (.iload 5, 2) := by decide +kernel
theorem dX1_bring_70 : decode cX1_bring 70 = .ok (.ifCond .ge 20, 3) := by decide +kernel
theorem dX1_bring_73 : decode cX1_bring 73 = .ok (.iload_n 1, 1) := by decide +kernel
theorem dX1_bring_74 : decode cX1_bring 74 = .ok (.aload_n 0, 1) := by decide +kernel
theorem dX1_bring_75 : decode cX1_bring 75 = .ok (.getfield 37, 3) := by decide +kernel
theorem dX1_bring_78 : decode cX1_bring 78 = .ok (.iconst 1, 1) := by decide +kernel
theorem dX1_bring_79 : decode cX1_bring 79 = .ok (.iadd, 1) := by decide +kernel
theorem dX1_bring_80 : decode cX1_bring 80 = .ok (.if_icmp .ne 10, 3) := by decide +kernel
theorem dX1_bring_83 : decode cX1_bring 83 = .ok (.aload_n 0, 1) := by decide +kernel
theorem dX1_bring_84 : decode cX1_bring 84 = .ok (.iload_n 1, 1) := by decide +kernel
theorem dX1_bring_85 : decode cX1_bring 85 = .ok (.iconst 1, 1) := by decide +kernel
theorem dX1_bring_86 : decode cX1_bring 86 = .ok (.iadd, 1) := by decide +kernel
theorem dX1_bring_87 : decode cX1_bring 87 = .ok (.invokevirtual 86, 3) := by decide +kernel
theorem dX1_bring_90 : decode cX1_bring 90 = .ok (.aload_n 0, 1) := by decide +kernel
theorem dX1_bring_91 : decode cX1_bring 91 = .ok (.iload_n 1, 1) := by decide +kernel
theorem dX1_bring_92 : decode cX1_bring 92 = .ok (.putfield 37, 3) := by decide +kernel
theorem dX1_bring_95 : decode cX1_bring 95 = .ok (.aload_n 0, 1) := by decide +kernel
theorem dX1_bring_96 : decode cX1_bring 96 = .ok (.iload_n 2, 1) := by decide +kernel
theorem dX1_bring_97 : decode cX1_bring 97 = .ok (.iload_n 1, 1) := by decide +kernel
theorem dX1_bring_98 : decode cX1_bring 98 = .ok (.invokevirtual 73, 3) := by decide +kernel
theorem dX1_bring_101 : decode cX1_bring 101 = .ok (.ireturn, 1) := by decide +kernel
theorem dX1_firstPlace_0 : decode cX1_firstPlace 0 = .ok (.iconst 2, 1) := by decide +kernel
theorem dX1_firstPlace_1 : decode cX1_firstPlace 1 = .ok (.iload_n 1, 1) := by decide +kernel
theorem dX1_firstPlace_2 : decode cX1_firstPlace 2 = .ok (.aload_n 0, 1) := by decide +kernel
theorem dX1_firstPlace_3 : decode cX1_firstPlace 3 = .ok (.getfield 26, 3) := by decide +kernel
theorem dX1_firstPlace_6 : decode cX1_firstPlace 6 = .ok (.ishr, 1) := by decide +kernel
theorem dX1_firstPlace_7 : decode cX1_firstPlace 7 = .ok (.iconst 3, 1) := by decide +kernel
theorem dX1_firstPlace_8 : decode cX1_firstPlace 8 = .ok (.iand, 1) := by decide +kernel
theorem dX1_firstPlace_9 : decode cX1_firstPlace 9 = .ok (.imul, 1) := by decide +kernel
theorem dX1_firstPlace_10 : decode cX1_firstPlace 10 = .ok (.ireturn, 1) := by decide +kernel
theorem dX1_among_0 : decode cX1_among 0 = .ok (.aload_n 0, 1) := by decide +kernel
theorem dX1_among_1 : decode cX1_among 1 = .ok (.getfield 13, 3) := by decide +kernel
theorem dX1_among_4 : decode cX1_among 4 = .ok (.iload_n 1, 1) := by decide +kernel
theorem dX1_among_5 : decode cX1_among 5 = .ok (.iaload, 1) := by decide +kernel
theorem dX1_among_6 : decode cX1_among 6 = .ok (.iload_n 2, 1) := by decide +kernel
theorem dX1_among_7 : decode cX1_among 7 = .ok (.if_icmp .ne 5, 3) := by decide +kernel
theorem dX1_among_10 : decode cX1_among 10 = .ok (.iload_n 1, 1) := by decide +kernel
theorem dX1_among_11 : decode cX1_among 11 = .ok (.ireturn, 1) := by decide +kernel
theorem dX1_among_12 : decode cX1_among 12 = .ok (.aload_n 0, 1) := by decide +kernel
theorem dX1_among_13 : decode cX1_among 13 = .ok (.getfield 13, 3) := by decide +kernel
theorem dX1_among_16 : decode cX1_among 16 = .ok (.iload_n 1, 1) := by decide +kernel
theorem dX1_among_17 : decode cX1_among 17 = .ok (.iconst 1, 1) := by decide +kernel
theorem dX1_among_18 : decode cX1_among 18 = .ok (.iadd, 1) := by decide +kernel
theorem dX1_among_19 : decode cX1_among 19 = .ok (.iaload, 1) := by decide +kernel
theorem dX1_among_20 : decode cX1_among 20 = .ok (.iload_n 2, 1) := by decide +kernel
theorem dX1_among_21 : decode cX1_among 21 = .ok (.if_icmp .ne 9, 3) := by decide +kernel
theorem dX1_among_24 : decode cX1_among 24 = .ok (.iload_n 1, 1) := by decide +kernel
theorem dX1_among_25 : decode cX1_among 25 = .ok (.iconst 1, 1) := by decide +kernel
theorem dX1_among_26 : decode cX1_among 26 = .ok (.iadd, 1) := by decide +kernel
theorem dX1_among_27 : decode cX1_among 27 = .ok (.goto 4, 3) := by decide +kernel
theorem dX1_among_30 : decode cX1_among 30 = .ok (.iconst (-1), 1) := by decide +kernel
theorem dX1_among_31 : decode cX1_among 31 = .ok (.ireturn, 1) := by decide +kernel
theorem dX1_touch_0 : decode cX1_touch 0 = .ok (.aload_n 0, 1) := by decide +kernel
theorem dX1_touch_1 : decode cX1_touch 1 = .ok (.dup, 1) := by decide +kernel
theorem dX1_touch_2 : decode cX1_touch 2 = .ok (.getfield 43, 3) := by decide +kernel
theorem dX1_touch_5 : decode cX1_touch 5 = .ok (.iconst 1, 1) := by decide +kernel
theorem dX1_touch_6 : decode cX1_touch 6 = .ok (.iadd, 1) := by decide +kernel
theorem dX1_touch_7 : decode cX1_touch 7 = .ok (.putfield 43, 3) := by decide +kernel
theorem dX1_touch_10 : decode cX1_touch 10 = .ok (.aload_n 0, 1) := by decide +kernel
theorem dX1_touch_11 : decode cX1_touch 11 = .ok (.getfield 20, 3) := by decide +kernel
theorem dX1_touch_14 : decode cX1_touch 14 = .ok (.iload_n 1, 1) := by decide +kernel
theorem dX1_touch_15 : decode cX1_touch 15 = .ok (.aload_n 0, 1) := by decide +kernel
theorem dX1_touch_16 : decode cX1_touch 16 = .ok (.getfield 43, 3) := by decide +kernel
theorem dX1_touch_19 : decode cX1_touch 19 = .ok (.iastore, 1) := by decide +kernel
theorem dX1_touch_20 : decode cX1_touch 20 = .ok (.return_, 1) := by decide +kernel
theorem dX1_makeRoom_0 : decode cX1_makeRoom 0 = .ok (.aload_n 0, 1) := by decide +kernel
theorem dX1_makeRoom_1 : decode cX1_makeRoom 1 = .ok (.iload_n 1, 1) := by decide +kernel
theorem dX1_makeRoom_2 : decode cX1_makeRoom 2 = .ok (.invokevirtual 67, 3) := by decide +kernel
theorem dX1_makeRoom_5 : decode cX1_makeRoom 5 = .ok (.istore_n 2, 1) := by decide +kernel
theorem dX1_makeRoom_6 : decode cX1_makeRoom 6 = .ok (.aload_n 0, 1) := by decide +kernel
theorem dX1_makeRoom_7 : decode cX1_makeRoom 7 = .ok (.iload_n 2, 1) := by decide +kernel
theorem dX1_makeRoom_8 : decode cX1_makeRoom 8 = .ok (.invokevirtual 54, 3) := by decide +kernel
theorem dX1_makeRoom_11 : decode cX1_makeRoom 11 = .ok (.istore_n 3, 1) := by decide +kernel
theorem dX1_makeRoom_12 : decode cX1_makeRoom 12 = .ok (.aload_n 0, 1) := by decide +kernel
theorem dX1_makeRoom_13 : decode cX1_makeRoom 13 = .ok (.getfield 13, 3) := by decide +kernel
theorem dX1_makeRoom_16 : decode cX1_makeRoom 16 = .ok (.iload_n 3, 1) := by decide +kernel
theorem dX1_makeRoom_17 : decode cX1_makeRoom 17 = .ok (.iaload, 1) := by decide +kernel
theorem dX1_makeRoom_18 : decode cX1_makeRoom 18 = .ok (.iconst (-1), 1) := by decide +kernel
theorem dX1_makeRoom_19 : decode cX1_makeRoom 19 = .ok (.if_icmp .eq 8, 3) := by decide +kernel
theorem dX1_makeRoom_22 : decode cX1_makeRoom 22 = .ok (.aload_n 0, 1) := by decide +kernel
theorem dX1_makeRoom_23 : decode cX1_makeRoom 23 = .ok (.iload_n 3, 1) := by decide +kernel
theorem dX1_makeRoom_24 : decode cX1_makeRoom 24 = .ok (.invokevirtual 70, 3) := by decide +kernel
theorem dX1_makeRoom_27 : decode cX1_makeRoom 27 = .ok (.iload_n 3, 1) := by decide +kernel
theorem dX1_makeRoom_28 : decode cX1_makeRoom 28 = .ok (.ireturn, 1) := by decide +kernel
theorem dX1_older_0 : decode cX1_older 0 = .ok (.aload_n 0, 1) := by decide +kernel
theorem dX1_older_1 : decode cX1_older 1 = .ok (.getfield 13, 3) := by decide +kernel
theorem dX1_older_4 : decode cX1_older 4 = .ok (.iload_n 1, 1) := by decide +kernel
theorem dX1_older_5 : decode cX1_older 5 = .ok (.iaload, 1) := by decide +kernel
theorem dX1_older_6 : decode cX1_older 6 = .ok (.iconst (-1), 1) := by decide +kernel
theorem dX1_older_7 : decode cX1_older 7 = .ok (.if_icmp .ne 5, 3) := by decide +kernel
theorem dX1_older_10 : decode cX1_older 10 = .ok (.iload_n 1, 1) := by decide +kernel
theorem dX1_older_11 : decode cX1_older 11 = .ok (.ireturn, 1) := by decide +kernel
theorem dX1_older_12 : decode cX1_older 12 = .ok (.aload_n 0, 1) := by decide +kernel
theorem dX1_older_13 : decode cX1_older 13 = .ok (.getfield 13, 3) := by decide +kernel
theorem dX1_older_16 : decode cX1_older 16 = .ok (.iload_n 1, 1) := by decide +kernel
theorem dX1_older_17 : decode cX1_older 17 = .ok (.iconst 1, 1) := by decide +kernel
theorem dX1_older_18 : decode cX1_older 18 = .ok (.iadd, 1) := by decide +kernel
theorem dX1_older_19 : decode cX1_older 19 = .ok (.iaload, 1) := by decide +kernel
theorem dX1_older_20 : decode cX1_older 20 = .ok (.iconst (-1), 1) := by decide +kernel
theorem dX1_older_21 : decode cX1_older 21 = .ok (.if_icmp .ne 7, 3) := by decide +kernel
theorem dX1_older_24 : decode cX1_older 24 = .ok (.iload_n 1, 1) := by decide +kernel
theorem dX1_older_25 : decode cX1_older 25 = .ok (.iconst 1, 1) := by decide +kernel
theorem dX1_older_26 : decode cX1_older 26 = .ok (.iadd, 1) := by decide +kernel
theorem dX1_older_27 : decode cX1_older 27 = .ok (.ireturn, 1) := by decide +kernel
theorem dX1_older_28 : decode cX1_older 28 = .ok (.aload_n 0, 1) := by decide +kernel
theorem dX1_older_29 : decode cX1_older 29 = .ok (.getfield 20, 3) := by decide +kernel
theorem dX1_older_32 : decode cX1_older 32 = .ok (.iload_n 1, 1) := by decide +kernel
theorem dX1_older_33 : decode cX1_older 33 = .ok (.iaload, 1) := by decide +kernel
theorem dX1_older_34 : decode cX1_older 34 = .ok (.aload_n 0, 1) := by decide +kernel
theorem dX1_older_35 : decode cX1_older 35 = .ok (.getfield 20, 3) := by decide +kernel
theorem dX1_older_38 : decode cX1_older 38 = .ok (.iload_n 1, 1) := by decide +kernel
theorem dX1_older_39 : decode cX1_older 39 = .ok (.iconst 1, 1) := by decide +kernel
theorem dX1_older_40 : decode cX1_older 40 = .ok (.iadd, 1) := by decide +kernel
theorem dX1_older_41 : decode cX1_older 41 = .ok (.iaload, 1) := by decide +kernel
theorem dX1_older_42 : decode cX1_older 42 = .ok (.if_icmp .gt 7, 3) := by decide +kernel
theorem dX1_older_45 : decode cX1_older 45 = .ok (.iload_n 1, 1) := by decide +kernel
theorem dX1_older_46 : decode cX1_older 46 = .ok (.goto 6, 3) := by decide +kernel
theorem dX1_older_49 : decode cX1_older 49 = .ok (.iload_n 1, 1) := by decide +kernel
theorem dX1_older_50 : decode cX1_older 50 = .ok (.iconst 1, 1) := by decide +kernel
theorem dX1_older_51 : decode cX1_older 51 = .ok (.iadd, 1) := by decide +kernel
theorem dX1_older_52 : decode cX1_older 52 = .ok (.ireturn, 1) := by decide +kernel
theorem dX1_sinkToBuffer_0 : decode cX1_sinkToBuffer 0 = .ok (.aload_n 0, 1) := by decide +kernel
theorem dX1_sinkToBuffer_1 : decode cX1_sinkToBuffer 1 = .ok (.bipush 8, 2) := by decide +kernel
theorem dX1_sinkToBuffer_3 : decode cX1_sinkToBuffer 3 = .ok (.invokevirtual 54, 3) := by decide +kernel
theorem dX1_sinkToBuffer_6 : decode cX1_sinkToBuffer 6 = .ok (.istore_n 2, 1) := by decide +kernel
theorem dX1_sinkToBuffer_7 : decode cX1_sinkToBuffer 7 = .ok (.aload_n 0, 1) := by decide +kernel
theorem dX1_sinkToBuffer_8 : decode cX1_sinkToBuffer 8 = .ok (.getfield 13, 3) := by decide +kernel
theorem dX1_sinkToBuffer_11 : decode cX1_sinkToBuffer 11 = .ok (.iload_n 2, 1) := by decide +kernel
theorem dX1_sinkToBuffer_12 : decode cX1_sinkToBuffer 12 = .ok (.iaload, 1) := by decide +kernel
theorem dX1_sinkToBuffer_13 : decode cX1_sinkToBuffer 13 = .ok (.iconst (-1), 1) := by decide +kernel
theorem dX1_sinkToBuffer_14 : decode cX1_sinkToBuffer 14 = .ok (.if_icmp .eq 8, 3) := by decide +kernel
theorem dX1_sinkToBuffer_17 : decode cX1_sinkToBuffer 17 = .ok (.aload_n 0, 1) := by decide +kernel
theorem dX1_sinkToBuffer_18 : decode cX1_sinkToBuffer 18 = .ok (.iload_n 2, 1) := by decide +kernel
theorem dX1_sinkToBuffer_19 : decode cX1_sinkToBuffer 19 = .ok (.invokevirtual 64, 3) := by decide +kernel
theorem dX1_sinkToBuffer_22 : decode cX1_sinkToBuffer 22 = .ok (.aload_n 0, 1) := by decide +kernel
theorem dX1_sinkToBuffer_23 : decode cX1_sinkToBuffer 23 = .ok (.iload_n 1, 1) := by decide +kernel
theorem dX1_sinkToBuffer_24 : decode cX1_sinkToBuffer 24 = .ok (.iload_n 2, 1) := by decide +kernel
theorem dX1_sinkToBuffer_25 : decode cX1_sinkToBuffer 25 = .ok (.invokevirtual 60, 3) := by decide +kernel
theorem dX1_sinkToBuffer_28 : decode cX1_sinkToBuffer 28 = .ok (.return_, 1) := by decide +kernel
theorem dX1_sinkToSecond_0 : decode cX1_sinkToSecond 0 = .ok (.aload_n 0, 1) := by decide +kernel
theorem dX1_sinkToSecond_1 : decode cX1_sinkToSecond 1 = .ok (.aload_n 0, 1) := by decide +kernel
theorem dX1_sinkToSecond_2 : decode cX1_sinkToSecond 2 = .ok (.getfield 13, 3) := by decide +kernel
theorem dX1_sinkToSecond_5 : decode cX1_sinkToSecond 5 = .ok (.iload_n 1, 1) := by decide +kernel
theorem dX1_sinkToSecond_6 : decode cX1_sinkToSecond 6 = .ok (.iaload, 1) := by decide +kernel
theorem dX1_sinkToSecond_7 : decode cX1_sinkToSecond 7 = .ok (.invokevirtual 50, 3) := by decide +kernel
theorem dX1_sinkToSecond_10 : decode cX1_sinkToSecond 10 = .ok (.istore_n 2, 1) := by decide +kernel
theorem dX1_sinkToSecond_11 : decode cX1_sinkToSecond 11 = .ok (.aload_n 0, 1) := by decide +kernel
theorem dX1_sinkToSecond_12 : decode cX1_sinkToSecond 12 = .ok (.iload_n 2, 1) := by decide +kernel
theorem dX1_sinkToSecond_13 : decode cX1_sinkToSecond 13 = .ok (.invokevirtual 54, 3) := by decide +kernel
theorem dX1_sinkToSecond_16 : decode cX1_sinkToSecond 16 = .ok (.istore_n 3, 1) := by decide +kernel
theorem dX1_sinkToSecond_17 : decode cX1_sinkToSecond 17 = .ok (.aload_n 0, 1) := by decide +kernel
theorem dX1_sinkToSecond_18 : decode cX1_sinkToSecond 18 = .ok (.iload_n 3, 1) := by decide +kernel
theorem dX1_sinkToSecond_19 : decode cX1_sinkToSecond 19 = .ok (.invokevirtual 57, 3) := by decide +kernel
theorem dX1_sinkToSecond_22 : decode cX1_sinkToSecond 22 = .ok (.aload_n 0, 1) := by decide +kernel
theorem dX1_sinkToSecond_23 : decode cX1_sinkToSecond 23 = .ok (.iload_n 1, 1) := by decide +kernel
theorem dX1_sinkToSecond_24 : decode cX1_sinkToSecond 24 = .ok (.iload_n 3, 1) := by decide +kernel
theorem dX1_sinkToSecond_25 : decode cX1_sinkToSecond 25 = .ok (.invokevirtual 60, 3) := by decide +kernel
theorem dX1_sinkToSecond_28 : decode cX1_sinkToSecond 28 = .ok (.return_, 1) := by decide +kernel
theorem dX1_secondPlace_0 : decode cX1_secondPlace 0 = .ok (.bipush 10, 2) := by decide +kernel
theorem dX1_secondPlace_2 : decode cX1_secondPlace 2 = .ok (.iconst 2, 1) := by decide +kernel
theorem dX1_secondPlace_3 : decode cX1_secondPlace 3 = .ok (.iload_n 1, 1) := by decide +kernel
theorem dX1_secondPlace_4 : decode cX1_secondPlace 4 = .ok (.aload_n 0, 1) := by decide +kernel
theorem dX1_secondPlace_5 : decode cX1_secondPlace 5 = .ok (.getfield 30, 3) := by decide +kernel
theorem dX1_secondPlace_8 : decode cX1_secondPlace 8 = .ok (.ishr, 1) := by decide +kernel
theorem dX1_secondPlace_9 : decode cX1_secondPlace 9 = .ok (.bipush 7, 2) := by decide +kernel
theorem dX1_secondPlace_11 : decode cX1_secondPlace 11 = .ok (.iand, 1) := by decide +kernel
theorem dX1_secondPlace_12 : decode cX1_secondPlace 12 = .ok (.imul, 1) := by decide +kernel
theorem dX1_secondPlace_13 : decode cX1_secondPlace 13 = .ok (.iadd, 1) := by decide +kernel
theorem dX1_secondPlace_14 : decode cX1_secondPlace 14 = .ok (.ireturn, 1) := by decide +kernel
theorem dX1_writeBack_0 : decode cX1_writeBack 0 = .ok (.aload_n 0, 1) := by decide +kernel
theorem dX1_writeBack_1 : decode cX1_writeBack 1 = .ok (.getfield 13, 3) := by decide +kernel
theorem dX1_writeBack_4 : decode cX1_writeBack 4 = .ok (.iload_n 1, 1) := by decide +kernel
theorem dX1_writeBack_5 : decode cX1_writeBack 5 = .ok (.iaload, 1) := by decide +kernel
end
section
set_option maxRecDepth 100000
theorem dX1_writeBack_6 : decode cX1_writeBack 6 = .ok (.iconst (-1), 1) := by decide +kernel
theorem dX1_writeBack_7 : decode cX1_writeBack 7 = .ok (.if_icmp .eq 50, 3) := by decide +kernel
theorem dX1_writeBack_10 : decode cX1_writeBack 10 = .ok (.aload_n 0, 1) := by decide +kernel
theorem dX1_writeBack_11 : decode cX1_writeBack 11 = .ok (.getfield 16, 3) := by decide +kernel
theorem dX1_writeBack_14 : decode cX1_writeBack 14 = .ok (.iload_n 1, 1) := by decide +kernel
theorem dX1_writeBack_15 : decode cX1_writeBack 15 = .ok (.baload, 1) := by decide +kernel
theorem dX1_writeBack_16 : decode cX1_writeBack 16 = .ok (.ifCond .eq 41, 3) := by decide +kernel
theorem dX1_writeBack_19 : decode cX1_writeBack 19 = .ok (.iconst 0, 1) := by decide +kernel
theorem dX1_writeBack_20 : decode cX1_writeBack 20 = .ok (.istore_n 2, 1) := by decide +kernel
theorem dX1_writeBack_21 : decode cX1_writeBack 21 = .ok (.iload_n 2, 1) := by decide +kernel
theorem dX1_writeBack_22 : decode cX1_writeBack 22 = .ok (.iconst 4, 1) := by decide +kernel
theorem dX1_writeBack_23 : decode cX1_writeBack 23 = .ok (.if_icmp .ge 34, 3) := by decide +kernel
theorem dX1_writeBack_26 : decode cX1_writeBack 26 = .ok (.aload_n 0, 1) := by decide +kernel
theorem dX1_writeBack_27 : decode cX1_writeBack 27 = .ok (.getfield 7, 3) := by decide +kernel
theorem dX1_writeBack_30 : decode cX1_writeBack 30 = .ok (.aload_n 0, 1) := by decide +kernel
theorem dX1_writeBack_31 : decode cX1_writeBack 31 = .ok (.getfield 13, 3) := by decide +kernel
theorem dX1_writeBack_34 : decode cX1_writeBack 34 = .ok (.iload_n 1, 1) := by decide +kernel
theorem dX1_writeBack_35 : decode cX1_writeBack 35 = .ok (.iaload, 1) := by decide +kernel
theorem dX1_writeBack_36 : decode cX1_writeBack 36 = .ok (.iconst 4, 1) := by decide +kernel
theorem dX1_writeBack_37 : decode cX1_writeBack 37 = .ok (.imul, 1) := by decide +kernel
theorem dX1_writeBack_38 : decode cX1_writeBack 38 = .ok (.iload_n 2, 1) := by decide +kernel
theorem dX1_writeBack_39 : decode cX1_writeBack 39 = .ok (.iadd, 1) := by decide +kernel
theorem dX1_writeBack_40 : decode cX1_writeBack 40 = .ok (.aload_n 0, 1) := by decide +kernel
theorem dX1_writeBack_41 : decode cX1_writeBack 41 = .ok (.getfield 23, 3) := by decide +kernel
theorem dX1_writeBack_44 : decode cX1_writeBack 44 = .ok (.iload_n 1, 1) := by decide +kernel
theorem dX1_writeBack_45 : decode cX1_writeBack 45 = .ok (.iconst 4, 1) := by decide +kernel
theorem dX1_writeBack_46 : decode cX1_writeBack 46 = .ok (.imul, 1) := by decide +kernel
theorem dX1_writeBack_47 : decode cX1_writeBack 47 = .ok (.iload_n 2, 1) := by decide +kernel
theorem dX1_writeBack_48 : decode cX1_writeBack 48 = .ok (.iadd, 1) := by decide +kernel
theorem dX1_writeBack_49 : decode cX1_writeBack 49 = .ok (.iaload, 1) := by decide +kernel
theorem dX1_writeBack_50 : decode cX1_writeBack 50 = .ok (.iastore, 1) := by decide +kernel
theorem dX1_writeBack_51 : decode cX1_writeBack 51 = .ok (.iinc 2 1, 3) := by decide +kernel
theorem dX1_writeBack_54 : decode cX1_writeBack 54 = .ok (.goto (-33), 3) := by decide +kernel
theorem dX1_writeBack_57 : decode cX1_writeBack 57 = .ok (.aload_n 0, 1) := by decide +kernel
theorem dX1_writeBack_58 : decode cX1_writeBack 58 = .ok (.getfield 16, 3) := by decide +kernel
theorem dX1_writeBack_61 : decode cX1_writeBack 61 = .ok (.iload_n 1, 1) := by decide +kernel
theorem dX1_writeBack_62 : decode cX1_writeBack 62 = .ok (.iconst 0, 1) := by decide +kernel
theorem dX1_writeBack_63 : decode cX1_writeBack 63 = .ok (.bastore, 1) := by decide +kernel
theorem dX1_writeBack_64 : decode cX1_writeBack 64 = .ok (.return_, 1) := by decide +kernel
theorem dX1_moveLine_0 : decode cX1_moveLine 0 = .ok (.aload_n 0, 1) := by decide +kernel
theorem dX1_moveLine_1 : decode cX1_moveLine 1 = .ok (.getfield 13, 3) := by decide +kernel
theorem dX1_moveLine_4 : decode cX1_moveLine 4 = .ok (.iload_n 2, 1) := by decide +kernel
theorem dX1_moveLine_5 : decode cX1_moveLine 5 = .ok (.aload_n 0, 1) := by decide +kernel
theorem dX1_moveLine_6 : decode cX1_moveLine 6 = .ok (.getfield 13, 3) := by decide +kernel
theorem dX1_moveLine_9 : decode cX1_moveLine 9 = .ok (.iload_n 1, 1) := by decide +kernel
theorem dX1_moveLine_10 : decode cX1_moveLine 10 = .ok (.iaload, 1) := by decide +kernel
theorem dX1_moveLine_11 : decode cX1_moveLine 11 = .ok (.iastore, 1) := by decide +kernel
theorem dX1_moveLine_12 : decode cX1_moveLine 12 = .ok (.aload_n 0, 1) := by decide +kernel
theorem dX1_moveLine_13 : decode cX1_moveLine 13 = .ok (.getfield 16, 3) := by decide +kernel
theorem dX1_moveLine_16 : decode cX1_moveLine 16 = .ok (.iload_n 2, 1) := by decide +kernel
theorem dX1_moveLine_17 : decode cX1_moveLine 17 = .ok (.aload_n 0, 1) := by decide +kernel
theorem dX1_moveLine_18 : decode cX1_moveLine 18 = .ok (.getfield 16, 3) := by decide +kernel
theorem dX1_moveLine_21 : decode cX1_moveLine 21 = .ok (.iload_n 1, 1) := by decide +kernel
theorem dX1_moveLine_22 : decode cX1_moveLine 22 = .ok (.baload, 1) := by decide +kernel
theorem dX1_moveLine_23 : decode cX1_moveLine 23 = .ok (.bastore, 1) := by decide +kernel
theorem dX1_moveLine_24 : decode cX1_moveLine 24 = .ok (.iconst 0, 1) := by decide +kernel
theorem dX1_moveLine_25 : decode cX1_moveLine 25 = .ok (.istore_n 3, 1) := by decide +kernel
theorem dX1_moveLine_26 : decode cX1_moveLine 26 = .ok (.iload_n 3, 1) := by decide +kernel
theorem dX1_moveLine_27 : decode cX1_moveLine 27 = .ok (.iconst 4, 1) := by decide +kernel
theorem dX1_moveLine_28 : decode cX1_moveLine 28 = .ok (.if_icmp .ge 29, 3) := by decide +kernel
theorem dX1_moveLine_31 : decode cX1_moveLine 31 = .ok (.aload_n 0, 1) := by decide +kernel
theorem dX1_moveLine_32 : decode cX1_moveLine 32 = .ok (.getfield 23, 3) := by decide +kernel
theorem dX1_moveLine_35 : decode cX1_moveLine 35 = .ok (.iload_n 2, 1) := by decide +kernel
theorem dX1_moveLine_36 : decode cX1_moveLine 36 = .ok (.iconst 4, 1) := by decide +kernel
theorem dX1_moveLine_37 : decode cX1_moveLine 37 = .ok (.imul, 1) := by decide +kernel
theorem dX1_moveLine_38 : decode cX1_moveLine 38 = .ok (.iload_n 3, 1) := by decide +kernel
theorem dX1_moveLine_39 : decode cX1_moveLine 39 = .ok (.iadd, 1) := by decide +kernel
theorem dX1_moveLine_40 : decode cX1_moveLine 40 = .ok (.aload_n 0, 1) := by decide +kernel
theorem dX1_moveLine_41 : decode cX1_moveLine 41 = .ok (.getfield 23, 3) := by decide +kernel
theorem dX1_moveLine_44 : decode cX1_moveLine 44 = .ok (.iload_n 1, 1) := by decide +kernel
theorem dX1_moveLine_45 : decode cX1_moveLine 45 = .ok (.iconst 4, 1) := by decide +kernel
theorem dX1_moveLine_46 : decode cX1_moveLine 46 = .ok (.imul, 1) := by decide +kernel
theorem dX1_moveLine_47 : decode cX1_moveLine 47 = .ok (.iload_n 3, 1) := by decide +kernel
theorem dX1_moveLine_48 : decode cX1_moveLine 48 = .ok (.iadd, 1) := by decide +kernel
theorem dX1_moveLine_49 : decode cX1_moveLine 49 = .ok (.iaload, 1) := by decide +kernel
theorem dX1_moveLine_50 : decode cX1_moveLine 50 = .ok (.iastore, 1) := by decide +kernel
theorem dX1_moveLine_51 : decode cX1_moveLine 51 = .ok (.iinc 3 1, 3) := by decide +kernel
theorem dX1_moveLine_54 : decode cX1_moveLine 54 = .ok (.goto (-28), 3) := by decide +kernel
theorem dX1_moveLine_57 : decode cX1_moveLine 57 = .ok (.aload_n 0, 1) := by decide +kernel
theorem dX1_moveLine_58 : decode cX1_moveLine 58 = .ok (.getfield 13, 3) := by decide +kernel
theorem dX1_moveLine_61 : decode cX1_moveLine 61 = .ok (.iload_n 1, 1) := by decide +kernel
theorem dX1_moveLine_62 : decode cX1_moveLine 62 = .ok (.iconst (-1), 1) := by decide +kernel
theorem dX1_moveLine_63 : decode cX1_moveLine 63 = .ok (.iastore, 1) := by decide +kernel
theorem dX1_moveLine_64 : decode cX1_moveLine 64 = .ok (.aload_n 0, 1) := by decide +kernel
theorem dX1_moveLine_65 : decode cX1_moveLine 65 = .ok (.getfield 16, 3) := by decide +kernel
theorem dX1_moveLine_68 : decode cX1_moveLine 68 = .ok (.iload_n 1, 1) := by decide +kernel
theorem dX1_moveLine_69 : decode cX1_moveLine 69 = .ok (.iconst 0, 1) := by decide +kernel
theorem dX1_moveLine_70 : decode cX1_moveLine 70 = .ok (.bastore, 1) := by decide +kernel
theorem dX1_moveLine_71 : decode cX1_moveLine 71 = .ok (.aload_n 0, 1) := by decide +kernel
theorem dX1_moveLine_72 : decode cX1_moveLine 72 = .ok (.iload_n 2, 1) := by decide +kernel
theorem dX1_moveLine_73 : decode cX1_moveLine 73 = .ok (.invokevirtual 46, 3) := by decide +kernel
theorem dX1_moveLine_76 : decode cX1_moveLine 76 = .ok (.return_, 1) := by decide +kernel
theorem dX1_lowerPlace_0 : decode cX1_lowerPlace 0 = .ok (.aload_n 0, 1) := by decide +kernel
theorem dX1_lowerPlace_1 : decode cX1_lowerPlace 1 = .ok (.bipush 8, 2) := by decide +kernel
theorem dX1_lowerPlace_3 : decode cX1_lowerPlace 3 = .ok (.iload_n 1, 1) := by decide +kernel
theorem dX1_lowerPlace_4 : decode cX1_lowerPlace 4 = .ok (.invokevirtual 73, 3) := by decide +kernel
theorem dX1_lowerPlace_7 : decode cX1_lowerPlace 7 = .ok (.istore_n 2, 1) := by decide +kernel
theorem dX1_lowerPlace_8 : decode cX1_lowerPlace 8 = .ok (.aload_n 0, 1) := by decide +kernel
theorem dX1_lowerPlace_9 : decode cX1_lowerPlace 9 = .ok (.iload_n 1, 1) := by decide +kernel
theorem dX1_lowerPlace_10 : decode cX1_lowerPlace 10 = .ok (.invokevirtual 50, 3) := by decide +kernel
theorem dX1_lowerPlace_13 : decode cX1_lowerPlace 13 = .ok (.istore_n 3, 1) := by decide +kernel
theorem dX1_lowerPlace_14 : decode cX1_lowerPlace 14 = .ok (.iload_n 2, 1) := by decide +kernel
theorem dX1_lowerPlace_15 : decode cX1_lowerPlace 15 = .ok (.ifCond .lt 7, 3) := by decide +kernel
theorem dX1_lowerPlace_18 : decode cX1_lowerPlace 18 = .ok (.iload_n 2, 1) := by decide +kernel
theorem dX1_lowerPlace_19 : decode cX1_lowerPlace 19 = .ok (.goto 9, 3) := by decide +kernel
theorem dX1_lowerPlace_22 : decode cX1_lowerPlace 22 = .ok (.aload_n 0, 1) := by decide +kernel
theorem dX1_lowerPlace_23 : decode cX1_lowerPlace 23 = .ok (.iload_n 3, 1) := by decide +kernel
theorem dX1_lowerPlace_24 : decode cX1_lowerPlace 24 = .ok (.iload_n 1, 1) := by decide +kernel
theorem dX1_lowerPlace_25 : decode cX1_lowerPlace 25 = .ok (.invokevirtual 73, 3) := by decide +kernel
theorem dX1_lowerPlace_28 : decode cX1_lowerPlace 28 = .ok (.ireturn, 1) := by decide +kernel
theorem dX1_readIn_0 : decode cX1_readIn 0 = .ok (.aload_n 0, 1) := by decide +kernel
theorem dX1_readIn_1 : decode cX1_readIn 1 = .ok (.getfield 13, 3) := by decide +kernel
theorem dX1_readIn_4 : decode cX1_readIn 4 = .ok (.iload_n 1, 1) := by decide +kernel
theorem dX1_readIn_5 : decode cX1_readIn 5 = .ok (.iload_n 2, 1) := by decide +kernel
theorem dX1_readIn_6 : decode cX1_readIn 6 = .ok (.iastore, 1) := by decide +kernel
theorem dX1_readIn_7 : decode cX1_readIn 7 = .ok (.aload_n 0, 1) := by decide +kernel
theorem dX1_readIn_8 : decode cX1_readIn 8 = .ok (.getfield 16, 3) := by decide +kernel
theorem dX1_readIn_11 : decode cX1_readIn 11 = .ok (.iload_n 1, 1) := by decide +kernel
theorem dX1_readIn_12 : decode cX1_readIn 12 = .ok (.iconst 0, 1) := by decide +kernel
theorem dX1_readIn_13 : decode cX1_readIn 13 = .ok (.bastore, 1) := by decide +kernel
theorem dX1_readIn_14 : decode cX1_readIn 14 = .ok (.iconst 0, 1) := by decide +kernel
theorem dX1_readIn_15 : decode cX1_readIn 15 = .ok (.istore_n 3, 1) := by decide +kernel
theorem dX1_readIn_16 : decode cX1_readIn 16 = .ok (.iload_n 3, 1) := by decide +kernel
theorem dX1_readIn_17 : decode cX1_readIn 17 = .ok (.iconst 4, 1) := by decide +kernel
theorem dX1_readIn_18 : decode cX1_readIn 18 = .ok (.if_icmp .ge 29, 3) := by decide +kernel
theorem dX1_readIn_21 : decode cX1_readIn 21 = .ok (.aload_n 0, 1) := by decide +kernel
theorem dX1_readIn_22 : decode cX1_readIn 22 = .ok (.getfield 23, 3) := by decide +kernel
theorem dX1_readIn_25 : decode cX1_readIn 25 = .ok (.iload_n 1, 1) := by decide +kernel
theorem dX1_readIn_26 : decode cX1_readIn 26 = .ok (.iconst 4, 1) := by decide +kernel
theorem dX1_readIn_27 : decode cX1_readIn 27 = .ok (.imul, 1) := by decide +kernel
theorem dX1_readIn_28 : decode cX1_readIn 28 = .ok (.iload_n 3, 1) := by decide +kernel
theorem dX1_readIn_29 : decode cX1_readIn 29 = .ok (.iadd, 1) := by decide +kernel
theorem dX1_readIn_30 : decode cX1_readIn 30 = .ok (.aload_n 0, 1) := by decide +kernel
theorem dX1_readIn_31 : decode cX1_readIn 31 = .ok (.getfield 7, 3) := by decide +kernel
theorem dX1_readIn_34 : decode cX1_readIn 34 = .ok (.iload_n 2, 1) := by decide +kernel
theorem dX1_readIn_35 : decode cX1_readIn 35 = .ok (.iconst 4, 1) := by decide +kernel
theorem dX1_readIn_36 : decode cX1_readIn 36 = .ok (.imul, 1) := by decide +kernel
theorem dX1_readIn_37 : decode cX1_readIn 37 = .ok (.iload_n 3, 1) := by decide +kernel
theorem dX1_readIn_38 : decode cX1_readIn 38 = .ok (.iadd, 1) := by decide +kernel
theorem dX1_readIn_39 : decode cX1_readIn 39 = .ok (.iaload, 1) := by decide +kernel
theorem dX1_readIn_40 : decode cX1_readIn 40 = .ok (.iastore, 1) := by decide +kernel
theorem dX1_readIn_41 : decode cX1_readIn 41 = .ok (.iinc 3 1, 3) := by decide +kernel
theorem dX1_readIn_44 : decode cX1_readIn 44 = .ok (.goto (-28), 3) := by decide +kernel
theorem dX1_readIn_47 : decode cX1_readIn 47 = .ok (.aload_n 0, 1) := by decide +kernel
theorem dX1_readIn_48 : decode cX1_readIn 48 = .ok (.iload_n 1, 1) := by decide +kernel
theorem dX1_readIn_49 : decode cX1_readIn 49 = .ok (.invokevirtual 46, 3) := by decide +kernel
theorem dX1_readIn_52 : decode cX1_readIn 52 = .ok (.return_, 1) := by decide +kernel
theorem dX1_fetchAhead_0 : decode cX1_fetchAhead 0 = .ok (.iload_n 1, 1) := by decide +kernel
theorem dX1_fetchAhead_1 : decode cX1_fetchAhead 1 = .ok (.bipush 64, 2) := by decide +kernel
theorem dX1_fetchAhead_3 : decode cX1_fetchAhead 3 = .ok (.if_icmp .lt 4, 3) := by decide +kernel
theorem dX1_fetchAhead_6 : decode cX1_fetchAhead 6 = .ok (.return_, 1) := by decide +kernel
theorem dX1_fetchAhead_7 : decode cX1_fetchAhead 7 = .ok (.aload_n 0, 1) := by decide +kernel
theorem dX1_fetchAhead_8 : decode cX1_fetchAhead 8 = .ok (.iload_n 1, 1) := by decide +kernel
theorem dX1_fetchAhead_9 : decode cX1_fetchAhead 9 = .ok (.invokevirtual 67, 3) := by decide +kernel
theorem dX1_fetchAhead_12 : decode cX1_fetchAhead 12 = .ok (.istore_n 2, 1) := by decide +kernel
theorem dX1_fetchAhead_13 : decode cX1_fetchAhead 13 = .ok (.aload_n 0, 1) := by decide +kernel
theorem dX1_fetchAhead_14 : decode cX1_fetchAhead 14 = .ok (.iload_n 2, 1) := by decide +kernel
theorem dX1_fetchAhead_15 : decode cX1_fetchAhead 15 = .ok (.iload_n 1, 1) := by decide +kernel
theorem dX1_fetchAhead_16 : decode cX1_fetchAhead 16 = .ok (.invokevirtual 73, 3) := by decide +kernel
theorem dX1_fetchAhead_19 : decode cX1_fetchAhead 19 = .ok (.istore_n 3, 1) := by decide +kernel
theorem dX1_fetchAhead_20 : decode cX1_fetchAhead 20 = .ok (.aload_n 0, 1) := by decide +kernel
theorem dX1_fetchAhead_21 : decode cX1_fetchAhead 21 = .ok (.iload_n 1, 1) := by decide +kernel
theorem dX1_fetchAhead_22 : decode cX1_fetchAhead 22 = .ok (.invokevirtual 80, 3) := by decide +kernel
theorem dX1_fetchAhead_25 : decode cX1_fetchAhead 25 = .ok (.istore 4, 2) := by decide +kernel
theorem dX1_fetchAhead_27 : decode cX1_fetchAhead 27 = .ok (.iload_n 3, 1) := by decide +kernel
theorem dX1_fetchAhead_28 : decode cX1_fetchAhead 28 = .ok (.ifCond .ge 8, 3) := by decide +kernel
theorem dX1_fetchAhead_31 : decode cX1_fetchAhead 31 = .ok (.iload 4, 2) := by decide +kernel
theorem dX1_fetchAhead_33 : decode cX1_fetchAhead 33 = .ok (.ifCond .lt 4, 3) := by decide +kernel
theorem dX1_fetchAhead_36 : decode cX1_fetchAhead 36 = .ok (.return_, 1) := by decide +kernel
theorem dX1_fetchAhead_37 : decode cX1_fetchAhead 37 = .ok (.aload_n 0, 1) := by decide +kernel
theorem dX1_fetchAhead_38 : decode cX1_fetchAhead 38 = .ok (.iload_n 1, 1) := by decide +kernel
theorem dX1_fetchAhead_39 : decode cX1_fetchAhead 39 = .ok (.invokevirtual 50, 3) := by decide +kernel
theorem dX1_fetchAhead_42 : decode cX1_fetchAhead 42 = .ok (.istore 5, 2) := by decide +kernel
theorem dX1_fetchAhead_44 : decode cX1_fetchAhead 44 = .ok (.aload_n 0, 1) := by decide +kernel
theorem dX1_fetchAhead_45 : decode cX1_fetchAhead 45 = .ok (.iload 5, 2) := by decide +kernel
theorem dX1_fetchAhead_47 : decode cX1_fetchAhead 47 = .ok (.invokevirtual 54, 3) := by decide +kernel
theorem dX1_fetchAhead_50 : decode cX1_fetchAhead 50 = .ok (.istore 6, 2) := by decide +kernel
theorem dX1_fetchAhead_52 : decode cX1_fetchAhead 52 = .ok (.aload_n 0, 1) := by decide +kernel
theorem dX1_fetchAhead_53 : decode cX1_fetchAhead 53 = .ok (.iload 6, 2) := by decide +kernel
theorem dX1_fetchAhead_55 : decode cX1_fetchAhead 55 = .ok (.invokevirtual 57, 3) := by decide +kernel
theorem dX1_fetchAhead_58 : decode cX1_fetchAhead 58 = .ok (.aload_n 0, 1) := by decide +kernel
theorem dX1_fetchAhead_59 : decode cX1_fetchAhead 59 = .ok (.iload 6, 2) := by decide +kernel
theorem dX1_fetchAhead_61 : decode cX1_fetchAhead 61 = .ok (.iload_n 1, 1) := by decide +kernel
theorem dX1_fetchAhead_62 : decode cX1_fetchAhead 62 = .ok (.invokevirtual 83, 3) := by decide +kernel
theorem dX1_fetchAhead_65 : decode cX1_fetchAhead 65 = .ok (.return_, 1) := by decide +kernel
theorem dX1_store_0 : decode cX1_store 0 = .ok (.iload_n 1, 1) := by decide +kernel
theorem dX1_store_1 : decode cX1_store 1 = .ok (.invokestatic 95, 3) := by decide +kernel
theorem dX1_store_4 : decode cX1_store 4 = .ok (.ifCond .eq 5, 3) := by decide +kernel
theorem dX1_store_7 : decode cX1_store 7 = .ok (.iconst (-1), 1) := by decide +kernel
theorem dX1_store_8 : decode cX1_store 8 = .ok (.ireturn, 1) := by decide +kernel
theorem dX1_store_9 : decode cX1_store 9 = .ok (.aload_n 0, 1) := by decide +kernel
theorem dX1_store_10 : decode cX1_store 10 = .ok (.iload_n 1, 1) := by decide +kernel
theorem dX1_store_11 : decode cX1_store 11 = .ok (.iload_n 2, 1) := by decide +kernel
theorem dX1_store_12 : decode cX1_store 12 = .ok (.invokevirtual 102, 3) := by decide +kernel
theorem dX1_store_15 : decode cX1_store 15 = .ok (.iconst 0, 1) := by decide +kernel
theorem dX1_store_16 : decode cX1_store 16 = .ok (.ireturn, 1) := by decide +kernel
theorem dX1_write_0 : decode cX1_write 0 = .ok (.aload_n 0, 1) := by decide +kernel
theorem dX1_write_1 : decode cX1_write 1 = .ok (.iload_n 1, 1) := by decide +kernel
theorem dX1_write_2 : decode cX1_write 2 = .ok (.invokevirtual 92, 3) := by decide +kernel
theorem dX1_write_5 : decode cX1_write 5 = .ok (.istore_n 3, 1) := by decide +kernel
theorem dX1_write_6 : decode cX1_write 6 = .ok (.aload_n 0, 1) := by decide +kernel
theorem dX1_write_7 : decode cX1_write 7 = .ok (.getfield 23, 3) := by decide +kernel
theorem dX1_write_10 : decode cX1_write 10 = .ok (.iload_n 3, 1) := by decide +kernel
theorem dX1_write_11 : decode cX1_write 11 = .ok (.iload_n 2, 1) := by decide +kernel
theorem dX1_write_12 : decode cX1_write 12 = .ok (.iastore, 1) := by decide +kernel
theorem dX1_write_13 : decode cX1_write 13 = .ok (.aload_n 0, 1) := by decide +kernel
theorem dX1_write_14 : decode cX1_write 14 = .ok (.getfield 16, 3) := by decide +kernel
theorem dX1_write_17 : decode cX1_write 17 = .ok (.iload_n 3, 1) := by decide +kernel
theorem dX1_write_18 : decode cX1_write 18 = .ok (.iconst 2, 1) := by decide +kernel
theorem dX1_write_19 : decode cX1_write 19 = .ok (.ishr, 1) := by decide +kernel
theorem dX1_write_20 : decode cX1_write 20 = .ok (.iconst 1, 1) := by decide +kernel
theorem dX1_write_21 : decode cX1_write 21 = .ok (.bastore, 1) := by decide +kernel
theorem dX1_write_22 : decode cX1_write 22 = .ok (.aload_n 0, 1) := by decide +kernel
theorem dX1_write_23 : decode cX1_write 23 = .ok (.getfield 40, 3) := by decide +kernel
theorem dX1_write_26 : decode cX1_write 26 = .ok (.iload_n 1, 1) := by decide +kernel
theorem dX1_write_27 : decode cX1_write 27 = .ok (.if_icmp .ne 8, 3) := by decide +kernel
theorem dX1_write_30 : decode cX1_write 30 = .ok (.aload_n 0, 1) := by decide +kernel
theorem dX1_write_31 : decode cX1_write 31 = .ok (.iconst (-1), 1) := by decide +kernel
theorem dX1_write_32 : decode cX1_write 32 = .ok (.putfield 40, 3) := by decide +kernel
theorem dX1_write_35 : decode cX1_write 35 = .ok (.return_, 1) := by decide +kernel
theorem dX1_loadByte_0 : decode cX1_loadByte 0 = .ok (.iload_n 1, 1) := by decide +kernel
theorem dX1_loadByte_1 : decode cX1_loadByte 1 = .ok (.ifCond .lt 10, 3) := by decide +kernel
theorem dX1_loadByte_4 : decode cX1_loadByte 4 = .ok (.iload_n 1, 1) := by decide +kernel
theorem dX1_loadByte_5 : decode cX1_loadByte 5 = .ok (.sipush 1023, 3) := by decide +kernel
theorem dX1_loadByte_8 : decode cX1_loadByte 8 = .ok (.if_icmp .le 5, 3) := by decide +kernel
theorem dX1_loadByte_11 : decode cX1_loadByte 11 = .ok (.iconst (-1), 1) := by decide +kernel
theorem dX1_loadByte_12 : decode cX1_loadByte 12 = .ok (.ireturn, 1) := by decide +kernel
theorem dX1_loadByte_13 : decode cX1_loadByte 13 = .ok (.aload_n 0, 1) := by decide +kernel
theorem dX1_loadByte_14 : decode cX1_loadByte 14 = .ok (.iload_n 1, 1) := by decide +kernel
theorem dX1_loadByte_15 : decode cX1_loadByte 15 = .ok (.iconst 2, 1) := by decide +kernel
theorem dX1_loadByte_16 : decode cX1_loadByte 16 = .ok (.ishr, 1) := by decide +kernel
theorem dX1_loadByte_17 : decode cX1_loadByte 17 = .ok (.invokevirtual 99, 3) := by decide +kernel
theorem dX1_loadByte_20 : decode cX1_loadByte 20 = .ok (.istore_n 3, 1) := by decide +kernel
theorem dX1_loadByte_21 : decode cX1_loadByte 21 = .ok (.iload_n 3, 1) := by decide +kernel
theorem dX1_loadByte_22 : decode cX1_loadByte 22 = .ok (.bipush 8, 2) := by decide +kernel
theorem dX1_loadByte_24 : decode cX1_loadByte 24 = .ok (.iload_n 1, 1) := by decide +kernel
theorem dX1_loadByte_25 : decode cX1_loadByte 25 = .ok (.iconst 3, 1) := by decide +kernel
theorem dX1_loadByte_26 : decode cX1_loadByte 26 = .ok (.iand, 1) := by decide +kernel
theorem dX1_loadByte_27 : decode cX1_loadByte 27 = .ok (.imul, 1) := by decide +kernel
theorem dX1_loadByte_28 : decode cX1_loadByte 28 = .ok (.ishr, 1) := by decide +kernel
theorem dX1_loadByte_29 : decode cX1_loadByte 29 = .ok (.sipush 255, 3) := by decide +kernel
theorem dX1_loadByte_32 : decode cX1_loadByte 32 = .ok (.iand, 1) := by decide +kernel
theorem dX1_loadByte_33 : decode cX1_loadByte 33 = .ok (.istore 4, 2) := by decide +kernel
theorem dX1_loadByte_35 : decode cX1_loadByte 35 = .ok (.iload_n 2, 1) := by decide +kernel
theorem dX1_loadByte_36 : decode cX1_loadByte 36 = .ok (.ifCond .eq 19, 3) := by decide +kernel
theorem dX1_loadByte_39 : decode cX1_loadByte 39 = .ok (.iload 4, 2) := by decide +kernel
theorem dX1_loadByte_41 : decode cX1_loadByte 41 = .ok (.bipush 127, 2) := by decide +kernel
theorem dX1_loadByte_43 : decode cX1_loadByte 43 = .ok (.if_icmp .le 12, 3) := by decide +kernel
theorem dX1_loadByte_46 : decode cX1_loadByte 46 = .ok (.iload 4, 2) := by decide +kernel
theorem dX1_loadByte_48 : decode cX1_loadByte 48 = .ok (.sipush 256, 3) := by decide +kernel
theorem dX1_loadByte_51 : decode cX1_loadByte 51 = .ok (.isub, 1) := by decide +kernel
theorem dX1_loadByte_52 : decode cX1_loadByte 52 = .ok (.goto 5, 3) := by decide +kernel
theorem dX1_loadByte_55 : decode cX1_loadByte 55 = .ok (.iload 4, 2) := by decide +kernel
theorem dX1_loadByte_57 : decode cX1_loadByte 57 = .ok (.ireturn, 1) := by decide +kernel
theorem dX1_storeByte_0 : decode cX1_storeByte 0 = .ok (.iload_n 1, 1) := by decide +kernel
theorem dX1_storeByte_1 : decode cX1_storeByte 1 = .ok (.ifCond .lt 10, 3) := by decide +kernel
theorem dX1_storeByte_4 : decode cX1_storeByte 4 = .ok (.iload_n 1, 1) := by decide +kernel
theorem dX1_storeByte_5 : decode cX1_storeByte 5 = .ok (.sipush 1023, 3) := by decide +kernel
theorem dX1_storeByte_8 : decode cX1_storeByte 8 = .ok (.if_icmp .le 5, 3) := by decide +kernel
theorem dX1_storeByte_11 : decode cX1_storeByte 11 = .ok (.iconst (-1), 1) := by decide +kernel
theorem dX1_storeByte_12 : decode cX1_storeByte 12 = .ok (.ireturn, 1) := by decide +kernel
theorem dX1_storeByte_13 : decode cX1_storeByte 13 = .ok (.iload_n 1, 1) := by decide +kernel
theorem dX1_storeByte_14 : decode cX1_storeByte 14 = .ok (.iconst 2, 1) := by decide +kernel
theorem dX1_storeByte_15 : decode cX1_storeByte 15 = .ok (.ishr, 1) := by decide +kernel
theorem dX1_storeByte_16 : decode cX1_storeByte 16 = .ok (.istore_n 3, 1) := by decide +kernel
theorem dX1_storeByte_17 : decode cX1_storeByte 17 = .ok (.bipush 8, 2) := by decide +kernel
theorem dX1_storeByte_19 : decode cX1_storeByte 19 = .ok (.iload_n 1, 1) := by decide +kernel
theorem dX1_storeByte_20 : decode cX1_storeByte 20 = .ok (.iconst 3, 1) := by decide +kernel
theorem dX1_storeByte_21 : decode cX1_storeByte 21 = .ok (.iand, 1) := by decide +kernel
theorem dX1_storeByte_22 : decode cX1_storeByte 22 = .ok (.imul, 1) := by decide +kernel
theorem dX1_storeByte_23 : decode cX1_storeByte 23 = .ok (.istore 4, 2) := by decide +kernel
theorem dX1_storeByte_25 : decode cX1_storeByte 25 = .ok (.aload_n 0, 1) := by decide +kernel
theorem dX1_storeByte_26 : decode cX1_storeByte 26 = .ok (.iload_n 3, 1) := by decide +kernel
theorem dX1_storeByte_27 : decode cX1_storeByte 27 = .ok (.invokevirtual 99, 3) := by decide +kernel
theorem dX1_storeByte_30 : decode cX1_storeByte 30 = .ok (.sipush 255, 3) := by decide +kernel
theorem dX1_storeByte_33 : decode cX1_storeByte 33 = .ok (.iload 4, 2) := by decide +kernel
theorem dX1_storeByte_35 : decode cX1_storeByte 35 = .ok (.ishl, 1) := by decide +kernel
theorem dX1_storeByte_36 : decode cX1_storeByte 36 = .ok (.iconst (-1), 1) := by decide +kernel
theorem dX1_storeByte_37 : decode cX1_storeByte 37 = .ok (.ixor, 1) := by decide +kernel
theorem dX1_storeByte_38 : decode cX1_storeByte 38 = .ok (.iand, 1) := by decide +kernel
theorem dX1_storeByte_39 : decode cX1_storeByte 39 = .ok (.iload_n 2, 1) := by decide +kernel
theorem dX1_storeByte_40 : decode cX1_storeByte 40 = .ok (.sipush 255, 3) := by decide +kernel
theorem dX1_storeByte_43 : decode cX1_storeByte 43 = .ok (.iand, 1) := by decide +kernel
theorem dX1_storeByte_44 : decode cX1_storeByte 44 = .ok (.iload 4, 2) := by decide +kernel
theorem dX1_storeByte_46 : decode cX1_storeByte 46 = .ok (.ishl, 1) := by decide +kernel
theorem dX1_storeByte_47 : decode cX1_storeByte 47 = .ok (.ior, 1) := by decide +kernel
theorem dX1_storeByte_48 : decode cX1_storeByte 48 = .ok (.istore 5, 2) := by decide +kernel
theorem dX1_storeByte_50 : decode cX1_storeByte 50 = .ok (.aload_n 0, 1) := by decide +kernel
theorem dX1_storeByte_51 : decode cX1_storeByte 51 = .ok (.iload_n 3, 1) := by decide +kernel
theorem dX1_storeByte_52 : decode cX1_storeByte 52 = .ok (.iload 5, 2) := by decide +kernel
theorem dX1_storeByte_54 : decode cX1_storeByte 54 = .ok (.invokevirtual 102, 3) := by decide +kernel
theorem dX1_storeByte_57 : decode cX1_storeByte 57 = .ok (.iconst 0, 1) := by decide +kernel
theorem dX1_storeByte_58 : decode cX1_storeByte 58 = .ok (.ireturn, 1) := by decide +kernel
theorem dX1_swap_0 : decode cX1_swap 0 = .ok (.iload_n 1, 1) := by decide +kernel
theorem dX1_swap_1 : decode cX1_swap 1 = .ok (.invokestatic 95, 3) := by decide +kernel
theorem dX1_swap_4 : decode cX1_swap 4 = .ok (.ifCond .eq 5, 3) := by decide +kernel
theorem dX1_swap_7 : decode cX1_swap 7 = .ok (.iconst (-1), 1) := by decide +kernel
theorem dX1_swap_8 : decode cX1_swap 8 = .ok (.ireturn, 1) := by decide +kernel
theorem dX1_swap_9 : decode cX1_swap 9 = .ok (.aload_n 0, 1) := by decide +kernel
theorem dX1_swap_10 : decode cX1_swap 10 = .ok (.iload_n 1, 1) := by decide +kernel
theorem dX1_swap_11 : decode cX1_swap 11 = .ok (.invokevirtual 99, 3) := by decide +kernel
theorem dX1_swap_14 : decode cX1_swap 14 = .ok (.istore_n 3, 1) := by decide +kernel
theorem dX1_swap_15 : decode cX1_swap 15 = .ok (.aload_n 0, 1) := by decide +kernel
theorem dX1_swap_16 : decode cX1_swap 16 = .ok (.iload_n 1, 1) := by decide +kernel
theorem dX1_swap_17 : decode cX1_swap 17 = .ok (.iload_n 2, 1) := by decide +kernel
theorem dX1_swap_18 : decode cX1_swap 18 = .ok (.invokevirtual 102, 3) := by decide +kernel
theorem dX1_swap_21 : decode cX1_swap 21 = .ok (.iload_n 3, 1) := by decide +kernel
theorem dX1_swap_22 : decode cX1_swap 22 = .ok (.ireturn, 1) := by decide +kernel
theorem dX1_addTo_0 : decode cX1_addTo 0 = .ok (.iload_n 1, 1) := by decide +kernel
theorem dX1_addTo_1 : decode cX1_addTo 1 = .ok (.invokestatic 95, 3) := by decide +kernel
theorem dX1_addTo_4 : decode cX1_addTo 4 = .ok (.ifCond .eq 5, 3) := by decide +kernel
theorem dX1_addTo_7 : decode cX1_addTo 7 = .ok (.iconst (-1), 1) := by decide +kernel
theorem dX1_addTo_8 : decode cX1_addTo 8 = .ok (.ireturn, 1) := by decide +kernel
theorem dX1_addTo_9 : decode cX1_addTo 9 = .ok (.aload_n 0, 1) := by decide +kernel
theorem dX1_addTo_10 : decode cX1_addTo 10 = .ok (.iload_n 1, 1) := by decide +kernel
theorem dX1_addTo_11 : decode cX1_addTo 11 = .ok (.invokevirtual 99, 3) := by decide +kernel
theorem dX1_addTo_14 : decode cX1_addTo 14 = .ok (.iload_n 2, 1) := by decide +kernel
end
section
set_option maxRecDepth 100000
theorem dX1_addTo_15 : decode cX1_addTo 15 = .ok (.iadd, 1) := by decide +kernel
theorem dX1_addTo_16 : decode cX1_addTo 16 = .ok (.istore_n 3, 1) := by decide +kernel
theorem dX1_addTo_17 : decode cX1_addTo 17 = .ok (.aload_n 0, 1) := by decide +kernel
theorem dX1_addTo_18 : decode cX1_addTo 18 = .ok (.iload_n 1, 1) := by decide +kernel
theorem dX1_addTo_19 : decode cX1_addTo 19 = .ok (.iload_n 3, 1) := by decide +kernel
theorem dX1_addTo_20 : decode cX1_addTo 20 = .ok (.invokevirtual 102, 3) := by decide +kernel
theorem dX1_addTo_23 : decode cX1_addTo 23 = .ok (.iload_n 3, 1) := by decide +kernel
theorem dX1_addTo_24 : decode cX1_addTo 24 = .ok (.ireturn, 1) := by decide +kernel
theorem dX1_loadReserved_0 : decode cX1_loadReserved 0 = .ok (.iload_n 1, 1) := by decide +kernel
theorem dX1_loadReserved_1 : decode cX1_loadReserved 1 = .ok (.invokestatic 95, 3) := by decide +kernel
theorem dX1_loadReserved_4 : decode cX1_loadReserved 4 = .ok (.ifCond .eq 5, 3) := by decide +kernel
theorem dX1_loadReserved_7 : decode cX1_loadReserved 7 = .ok (.iconst (-1), 1) := by decide +kernel
theorem dX1_loadReserved_8 : decode cX1_loadReserved 8 = .ok (.ireturn, 1) := by decide +kernel
theorem dX1_loadReserved_9 : decode cX1_loadReserved 9 = .ok (.aload_n 0, 1) := by decide +kernel
theorem dX1_loadReserved_10 : decode cX1_loadReserved 10 = .ok (.iload_n 1, 1) := by decide +kernel
theorem dX1_loadReserved_11 : decode cX1_loadReserved 11 = .ok (.putfield 40, 3) := by decide +kernel
theorem dX1_loadReserved_14 : decode cX1_loadReserved 14 = .ok (.aload_n 0, 1) := by decide +kernel
theorem dX1_loadReserved_15 : decode cX1_loadReserved 15 = .ok (.iload_n 1, 1) := by decide +kernel
theorem dX1_loadReserved_16 : decode cX1_loadReserved 16 = .ok (.invokevirtual 99, 3) := by decide +kernel
theorem dX1_loadReserved_19 : decode cX1_loadReserved 19 = .ok (.ireturn, 1) := by decide +kernel
theorem dX1_storeConditional_0 : decode cX1_storeConditional 0 = .ok (.iload_n 1, 1) := by decide +kernel
theorem dX1_storeConditional_1 : decode cX1_storeConditional 1 = .ok (.invokestatic 95, 3) := by decide +kernel
theorem dX1_storeConditional_4 : decode cX1_storeConditional 4 = .ok (.ifCond .eq 5, 3) := by decide +kernel
theorem dX1_storeConditional_7 : decode cX1_storeConditional 7 = .ok (.iconst (-1), 1) := by decide +kernel
theorem dX1_storeConditional_8 : decode cX1_storeConditional 8 = .ok (.ireturn, 1) := by decide +kernel
theorem dX1_storeConditional_9 : decode cX1_storeConditional 9 = .ok (.aload_n 0, 1) := by decide +kernel
theorem dX1_storeConditional_10 : decode cX1_storeConditional 10 = .ok (.getfield 40, 3) := by decide +kernel
theorem dX1_storeConditional_13 : decode cX1_storeConditional 13 = .ok (.iload_n 1, 1) := by decide +kernel
theorem dX1_storeConditional_14 : decode cX1_storeConditional 14 = .ok (.if_icmp .ne 7, 3) := by decide +kernel
theorem dX1_storeConditional_17 : decode cX1_storeConditional 17 = .ok (.iconst 1, 1) := by decide +kernel
theorem dX1_storeConditional_18 : decode cX1_storeConditional 18 = .ok (.goto 4, 3) := by decide +kernel
theorem dX1_storeConditional_21 : decode cX1_storeConditional 21 = .ok (.iconst 0, 1) := by decide +kernel
theorem dX1_storeConditional_22 : decode cX1_storeConditional 22 = .ok (.istore_n 3, 1) := by decide +kernel
theorem dX1_storeConditional_23 : decode cX1_storeConditional 23 = .ok (.aload_n 0, 1) := by decide +kernel
theorem dX1_storeConditional_24 : decode cX1_storeConditional 24 = .ok (.iconst (-1), 1) := by decide +kernel
theorem dX1_storeConditional_25 : decode cX1_storeConditional 25 = .ok (.putfield 40, 3) := by decide +kernel
theorem dX1_storeConditional_28 : decode cX1_storeConditional 28 = .ok (.iload_n 3, 1) := by decide +kernel
theorem dX1_storeConditional_29 : decode cX1_storeConditional 29 = .ok (.ifCond .eq 9, 3) := by decide +kernel
theorem dX1_storeConditional_32 : decode cX1_storeConditional 32 = .ok (.aload_n 0, 1) := by decide +kernel
theorem dX1_storeConditional_33 : decode cX1_storeConditional 33 = .ok (.iload_n 1, 1) := by decide +kernel
theorem dX1_storeConditional_34 : decode cX1_storeConditional 34 = .ok (.iload_n 2, 1) := by decide +kernel
theorem dX1_storeConditional_35 : decode cX1_storeConditional 35 = .ok (.invokevirtual 102, 3) := by decide +kernel
theorem dX1_storeConditional_38 : decode cX1_storeConditional 38 = .ok (.iload_n 3, 1) := by decide +kernel
theorem dX1_storeConditional_39 : decode cX1_storeConditional 39 = .ok (.ifCond .eq 7, 3) := by decide +kernel
theorem dX1_storeConditional_42 : decode cX1_storeConditional 42 = .ok (.iconst 1, 1) := by decide +kernel
theorem dX1_storeConditional_43 : decode cX1_storeConditional 43 = .ok (.goto 4, 3) := by decide +kernel
theorem dX1_storeConditional_46 : decode cX1_storeConditional 46 = .ok (.iconst 0, 1) := by decide +kernel
theorem dX1_storeConditional_47 : decode cX1_storeConditional 47 = .ok (.ireturn, 1) := by decide +kernel
theorem dX1_copy_0 : decode cX1_copy 0 = .ok (.iload_n 1, 1) := by decide +kernel
theorem dX1_copy_1 : decode cX1_copy 1 = .ok (.invokestatic 95, 3) := by decide +kernel
theorem dX1_copy_4 : decode cX1_copy 4 = .ok (.ifCond .ne 10, 3) := by decide +kernel
theorem dX1_copy_7 : decode cX1_copy 7 = .ok (.iload_n 2, 1) := by decide +kernel
theorem dX1_copy_8 : decode cX1_copy 8 = .ok (.invokestatic 95, 3) := by decide +kernel
theorem dX1_copy_11 : decode cX1_copy 11 = .ok (.ifCond .eq 5, 3) := by decide +kernel
theorem dX1_copy_14 : decode cX1_copy 14 = .ok (.iconst (-1), 1) := by decide +kernel
theorem dX1_copy_15 : decode cX1_copy 15 = .ok (.ireturn, 1) := by decide +kernel
theorem dX1_copy_16 : decode cX1_copy 16 = .ok (.iload_n 3, 1) := by decide +kernel
theorem dX1_copy_17 : decode cX1_copy 17 = .ok (.ifCond .lt 27, 3) := by decide +kernel
theorem dX1_copy_20 : decode cX1_copy 20 = .ok (.iload_n 3, 1) := by decide +kernel
theorem dX1_copy_21 : decode cX1_copy 21 = .ok (.bipush 32, 2) := by decide +kernel
theorem dX1_copy_23 : decode cX1_copy 23 = .ok (.if_icmp .gt 21, 3) := by decide +kernel
theorem dX1_copy_26 : decode cX1_copy 26 = .ok (.iload_n 1, 1) := by decide +kernel
theorem dX1_copy_27 : decode cX1_copy 27 = .ok (.iload_n 3, 1) := by decide +kernel
theorem dX1_copy_28 : decode cX1_copy 28 = .ok (.iadd, 1) := by decide +kernel
theorem dX1_copy_29 : decode cX1_copy 29 = .ok (.sipush 256, 3) := by decide +kernel
theorem dX1_copy_32 : decode cX1_copy 32 = .ok (.if_icmp .gt 12, 3) := by decide +kernel
theorem dX1_copy_35 : decode cX1_copy 35 = .ok (.iload_n 2, 1) := by decide +kernel
theorem dX1_copy_36 : decode cX1_copy 36 = .ok (.iload_n 3, 1) := by decide +kernel
theorem dX1_copy_37 : decode cX1_copy 37 = .ok (.iadd, 1) := by decide +kernel
theorem dX1_copy_38 : decode cX1_copy 38 = .ok (.sipush 256, 3) := by decide +kernel
theorem dX1_copy_41 : decode cX1_copy 41 = .ok (.if_icmp .le 6, 3) := by decide +kernel
theorem dX1_copy_44 : decode cX1_copy 44 = .ok (.bipush (-2), 2) := by decide +kernel
theorem dX1_copy_46 : decode cX1_copy 46 = .ok (.ireturn, 1) := by decide +kernel
theorem dX1_copy_47 : decode cX1_copy 47 = .ok (.iconst 0, 1) := by decide +kernel
theorem dX1_copy_48 : decode cX1_copy 48 = .ok (.istore 4, 2) := by decide +kernel
theorem dX1_copy_50 : decode cX1_copy 50 = .ok (.iload 4, 2) := by decide +kernel
theorem dX1_copy_52 : decode cX1_copy 52 = .ok (.iload_n 3, 1) := by decide +kernel
theorem dX1_copy_53 : decode cX1_copy 53 = .ok (.if_icmp .ge 29, 3) := by decide +kernel
theorem dX1_copy_56 : decode cX1_copy 56 = .ok (.aload_n 0, 1) := by decide +kernel
theorem dX1_copy_57 : decode cX1_copy 57 = .ok (.iload_n 1, 1) := by decide +kernel
theorem dX1_copy_58 : decode cX1_copy 58 = .ok (.iload 4, 2) := by decide +kernel
theorem dX1_copy_60 : decode cX1_copy 60 = .ok (.iadd, 1) := by decide +kernel
theorem dX1_copy_61 : decode cX1_copy 61 = .ok (.invokevirtual 99, 3) := by decide +kernel
theorem dX1_copy_64 : decode cX1_copy 64 = .ok (.istore 5, 2) := by decide +kernel
theorem dX1_copy_66 : decode cX1_copy 66 = .ok (.aload_n 0, 1) := by decide +kernel
theorem dX1_copy_67 : decode cX1_copy 67 = .ok (.iload_n 2, 1) := by decide +kernel
theorem dX1_copy_68 : decode cX1_copy 68 = .ok (.iload 4, 2) := by decide +kernel
theorem dX1_copy_70 : decode cX1_copy 70 = .ok (.iadd, 1) := by decide +kernel
theorem dX1_copy_71 : decode cX1_copy 71 = .ok (.iload 5, 2) := by decide +kernel
theorem dX1_copy_73 : decode cX1_copy 73 = .ok (.invokevirtual 102, 3) := by decide +kernel
theorem dX1_copy_76 : decode cX1_copy 76 = .ok (.iinc 4 1, 3) := by decide +kernel
theorem dX1_copy_79 : decode cX1_copy 79 = .ok (.goto (-29), 3) := by decide +kernel
theorem dX1_copy_82 : decode cX1_copy 82 = .ok (.iload_n 3, 1) := by decide +kernel
theorem dX1_copy_83 : decode cX1_copy 83 = .ok (.ireturn, 1) := by decide +kernel
theorem dX1_deviceRead_0 : decode cX1_deviceRead 0 = .ok (.iload_n 1, 1) := by decide +kernel
theorem dX1_deviceRead_1 : decode cX1_deviceRead 1 = .ok (.invokestatic 95, 3) := by decide +kernel
theorem dX1_deviceRead_4 : decode cX1_deviceRead 4 = .ok (.ifCond .eq 7, 3) := by decide +kernel
theorem dX1_deviceRead_7 : decode cX1_deviceRead 7 = .ok (.iconst (-1), 1) := by decide +kernel
theorem dX1_deviceRead_8 : decode cX1_deviceRead 8 = .ok (.goto 8, 3) := by decide +kernel
theorem dX1_deviceRead_11 : decode cX1_deviceRead 11 = .ok (.aload_n 0, 1) := by decide +kernel
theorem dX1_deviceRead_12 : decode cX1_deviceRead 12 = .ok (.iload_n 1, 1) := by decide +kernel
theorem dX1_deviceRead_13 : decode cX1_deviceRead 13 = .ok (.invokevirtual 108, 3) := by decide +kernel
theorem dX1_deviceRead_16 : decode cX1_deviceRead 16 = .ok (.ireturn, 1) := by decide +kernel
theorem dX1_deviceWord_0 : decode cX1_deviceWord 0 = .ok (.aload_n 0, 1) := by decide +kernel
theorem dX1_deviceWord_1 : decode cX1_deviceWord 1 = .ok (.iload_n 1, 1) := by decide +kernel
theorem dX1_deviceWord_2 : decode cX1_deviceWord 2 = .ok (.iconst 2, 1) := by decide +kernel
theorem dX1_deviceWord_3 : decode cX1_deviceWord 3 = .ok (.ishr, 1) := by decide +kernel
theorem dX1_deviceWord_4 : decode cX1_deviceWord 4 = .ok (.invokevirtual 105, 3) := by decide +kernel
theorem dX1_deviceWord_7 : decode cX1_deviceWord 7 = .ok (.istore_n 2, 1) := by decide +kernel
theorem dX1_deviceWord_8 : decode cX1_deviceWord 8 = .ok (.iload_n 2, 1) := by decide +kernel
theorem dX1_deviceWord_9 : decode cX1_deviceWord 9 = .ok (.ifCond .lt 18, 3) := by decide +kernel
theorem dX1_deviceWord_12 : decode cX1_deviceWord 12 = .ok (.aload_n 0, 1) := by decide +kernel
theorem dX1_deviceWord_13 : decode cX1_deviceWord 13 = .ok (.getfield 23, 3) := by decide +kernel
theorem dX1_deviceWord_16 : decode cX1_deviceWord 16 = .ok (.iload_n 2, 1) := by decide +kernel
theorem dX1_deviceWord_17 : decode cX1_deviceWord 17 = .ok (.iconst 4, 1) := by decide +kernel
theorem dX1_deviceWord_18 : decode cX1_deviceWord 18 = .ok (.imul, 1) := by decide +kernel
theorem dX1_deviceWord_19 : decode cX1_deviceWord 19 = .ok (.iload_n 1, 1) := by decide +kernel
theorem dX1_deviceWord_20 : decode cX1_deviceWord 20 = .ok (.iconst 3, 1) := by decide +kernel
theorem dX1_deviceWord_21 : decode cX1_deviceWord 21 = .ok (.iand, 1) := by decide +kernel
theorem dX1_deviceWord_22 : decode cX1_deviceWord 22 = .ok (.iadd, 1) := by decide +kernel
theorem dX1_deviceWord_23 : decode cX1_deviceWord 23 = .ok (.iaload, 1) := by decide +kernel
theorem dX1_deviceWord_24 : decode cX1_deviceWord 24 = .ok (.goto 9, 3) := by decide +kernel
theorem dX1_deviceWord_27 : decode cX1_deviceWord 27 = .ok (.aload_n 0, 1) := by decide +kernel
theorem dX1_deviceWord_28 : decode cX1_deviceWord 28 = .ok (.getfield 7, 3) := by decide +kernel
theorem dX1_deviceWord_31 : decode cX1_deviceWord 31 = .ok (.iload_n 1, 1) := by decide +kernel
theorem dX1_deviceWord_32 : decode cX1_deviceWord 32 = .ok (.iaload, 1) := by decide +kernel
theorem dX1_deviceWord_33 : decode cX1_deviceWord 33 = .ok (.ireturn, 1) := by decide +kernel
theorem dX1_anyPlace_0 : decode cX1_anyPlace 0 = .ok (.aload_n 0, 1) := by decide +kernel
theorem dX1_anyPlace_1 : decode cX1_anyPlace 1 = .ok (.iload_n 1, 1) := by decide +kernel
theorem dX1_anyPlace_2 : decode cX1_anyPlace 2 = .ok (.invokevirtual 67, 3) := by decide +kernel
theorem dX1_anyPlace_5 : decode cX1_anyPlace 5 = .ok (.istore_n 2, 1) := by decide +kernel
theorem dX1_anyPlace_6 : decode cX1_anyPlace 6 = .ok (.aload_n 0, 1) := by decide +kernel
theorem dX1_anyPlace_7 : decode cX1_anyPlace 7 = .ok (.iload_n 2, 1) := by decide +kernel
theorem dX1_anyPlace_8 : decode cX1_anyPlace 8 = .ok (.iload_n 1, 1) := by decide +kernel
theorem dX1_anyPlace_9 : decode cX1_anyPlace 9 = .ok (.invokevirtual 73, 3) := by decide +kernel
theorem dX1_anyPlace_12 : decode cX1_anyPlace 12 = .ok (.istore_n 3, 1) := by decide +kernel
theorem dX1_anyPlace_13 : decode cX1_anyPlace 13 = .ok (.iload_n 3, 1) := by decide +kernel
theorem dX1_anyPlace_14 : decode cX1_anyPlace 14 = .ok (.ifCond .lt 7, 3) := by decide +kernel
theorem dX1_anyPlace_17 : decode cX1_anyPlace 17 = .ok (.iload_n 3, 1) := by decide +kernel
theorem dX1_anyPlace_18 : decode cX1_anyPlace 18 = .ok (.goto 8, 3) := by decide +kernel
theorem dX1_anyPlace_21 : decode cX1_anyPlace 21 = .ok (.aload_n 0, 1) := by decide +kernel
theorem dX1_anyPlace_22 : decode cX1_anyPlace 22 = .ok (.iload_n 1, 1) := by decide +kernel
theorem dX1_anyPlace_23 : decode cX1_anyPlace 23 = .ok (.invokevirtual 80, 3) := by decide +kernel
theorem dX1_anyPlace_26 : decode cX1_anyPlace 26 = .ok (.ireturn, 1) := by decide +kernel
theorem dX1_deviceWrite_0 : decode cX1_deviceWrite 0 = .ok (.iload_n 1, 1) := by decide +kernel
theorem dX1_deviceWrite_1 : decode cX1_deviceWrite 1 = .ok (.invokestatic 95, 3) := by decide +kernel
theorem dX1_deviceWrite_4 : decode cX1_deviceWrite 4 = .ok (.ifCond .eq 5, 3) := by decide +kernel
theorem dX1_deviceWrite_7 : decode cX1_deviceWrite 7 = .ok (.iconst (-1), 1) := by decide +kernel
theorem dX1_deviceWrite_8 : decode cX1_deviceWrite 8 = .ok (.ireturn, 1) := by decide +kernel
theorem dX1_deviceWrite_9 : decode cX1_deviceWrite 9 = .ok (.aload_n 0, 1) := by decide +kernel
theorem dX1_deviceWrite_10 : decode cX1_deviceWrite 10 = .ok (.iload_n 1, 1) := by decide +kernel
theorem dX1_deviceWrite_11 : decode cX1_deviceWrite 11 = .ok (.iload_n 2, 1) := by decide +kernel
theorem dX1_deviceWrite_12 : decode cX1_deviceWrite 12 = .ok (.invokevirtual 111, 3) := by decide +kernel
theorem dX1_deviceWrite_15 : decode cX1_deviceWrite 15 = .ok (.iconst 0, 1) := by decide +kernel
theorem dX1_deviceWrite_16 : decode cX1_deviceWrite 16 = .ok (.ireturn, 1) := by decide +kernel
theorem dX1_devicePut_0 : decode cX1_devicePut 0 = .ok (.aload_n 0, 1) := by decide +kernel
theorem dX1_devicePut_1 : decode cX1_devicePut 1 = .ok (.iload_n 1, 1) := by decide +kernel
theorem dX1_devicePut_2 : decode cX1_devicePut 2 = .ok (.iconst 2, 1) := by decide +kernel
theorem dX1_devicePut_3 : decode cX1_devicePut 3 = .ok (.ishr, 1) := by decide +kernel
theorem dX1_devicePut_4 : decode cX1_devicePut 4 = .ok (.invokevirtual 105, 3) := by decide +kernel
theorem dX1_devicePut_7 : decode cX1_devicePut 7 = .ok (.istore_n 3, 1) := by decide +kernel
theorem dX1_devicePut_8 : decode cX1_devicePut 8 = .ok (.iload_n 3, 1) := by decide +kernel
theorem dX1_devicePut_9 : decode cX1_devicePut 9 = .ok (.ifCond .lt 28, 3) := by decide +kernel
theorem dX1_devicePut_12 : decode cX1_devicePut 12 = .ok (.aload_n 0, 1) := by decide +kernel
theorem dX1_devicePut_13 : decode cX1_devicePut 13 = .ok (.getfield 16, 3) := by decide +kernel
theorem dX1_devicePut_16 : decode cX1_devicePut 16 = .ok (.iload_n 3, 1) := by decide +kernel
theorem dX1_devicePut_17 : decode cX1_devicePut 17 = .ok (.baload, 1) := by decide +kernel
theorem dX1_devicePut_18 : decode cX1_devicePut 18 = .ok (.ifCond .eq 19, 3) := by decide +kernel
theorem dX1_devicePut_21 : decode cX1_devicePut 21 = .ok (.aload_n 0, 1) := by decide +kernel
theorem dX1_devicePut_22 : decode cX1_devicePut 22 = .ok (.getfield 23, 3) := by decide +kernel
theorem dX1_devicePut_25 : decode cX1_devicePut 25 = .ok (.iload_n 3, 1) := by decide +kernel
theorem dX1_devicePut_26 : decode cX1_devicePut 26 = .ok (.iconst 4, 1) := by decide +kernel
theorem dX1_devicePut_27 : decode cX1_devicePut 27 = .ok (.imul, 1) := by decide +kernel
theorem dX1_devicePut_28 : decode cX1_devicePut 28 = .ok (.iload_n 1, 1) := by decide +kernel
theorem dX1_devicePut_29 : decode cX1_devicePut 29 = .ok (.iconst 3, 1) := by decide +kernel
theorem dX1_devicePut_30 : decode cX1_devicePut 30 = .ok (.iand, 1) := by decide +kernel
theorem dX1_devicePut_31 : decode cX1_devicePut 31 = .ok (.iadd, 1) := by decide +kernel
theorem dX1_devicePut_32 : decode cX1_devicePut 32 = .ok (.iload_n 2, 1) := by decide +kernel
theorem dX1_devicePut_33 : decode cX1_devicePut 33 = .ok (.iastore, 1) := by decide +kernel
theorem dX1_devicePut_34 : decode cX1_devicePut 34 = .ok (.goto 21, 3) := by decide +kernel
theorem dX1_devicePut_37 : decode cX1_devicePut 37 = .ok (.iload_n 3, 1) := by decide +kernel
theorem dX1_devicePut_38 : decode cX1_devicePut 38 = .ok (.ifCond .lt 10, 3) := by decide +kernel
theorem dX1_devicePut_41 : decode cX1_devicePut 41 = .ok (.aload_n 0, 1) := by decide +kernel
theorem dX1_devicePut_42 : decode cX1_devicePut 42 = .ok (.getfield 13, 3) := by decide +kernel
theorem dX1_devicePut_45 : decode cX1_devicePut 45 = .ok (.iload_n 3, 1) := by decide +kernel
theorem dX1_devicePut_46 : decode cX1_devicePut 46 = .ok (.iconst (-1), 1) := by decide +kernel
theorem dX1_devicePut_47 : decode cX1_devicePut 47 = .ok (.iastore, 1) := by decide +kernel
theorem dX1_devicePut_48 : decode cX1_devicePut 48 = .ok (.aload_n 0, 1) := by decide +kernel
theorem dX1_devicePut_49 : decode cX1_devicePut 49 = .ok (.getfield 7, 3) := by decide +kernel
theorem dX1_devicePut_52 : decode cX1_devicePut 52 = .ok (.iload_n 1, 1) := by decide +kernel
theorem dX1_devicePut_53 : decode cX1_devicePut 53 = .ok (.iload_n 2, 1) := by decide +kernel
theorem dX1_devicePut_54 : decode cX1_devicePut 54 = .ok (.iastore, 1) := by decide +kernel
theorem dX1_devicePut_55 : decode cX1_devicePut 55 = .ok (.aload_n 0, 1) := by decide +kernel
theorem dX1_devicePut_56 : decode cX1_devicePut 56 = .ok (.getfield 40, 3) := by decide +kernel
theorem dX1_devicePut_59 : decode cX1_devicePut 59 = .ok (.iload_n 1, 1) := by decide +kernel
theorem dX1_devicePut_60 : decode cX1_devicePut 60 = .ok (.if_icmp .ne 8, 3) := by decide +kernel
theorem dX1_devicePut_63 : decode cX1_devicePut 63 = .ok (.aload_n 0, 1) := by decide +kernel
theorem dX1_devicePut_64 : decode cX1_devicePut 64 = .ok (.iconst (-1), 1) := by decide +kernel
theorem dX1_devicePut_65 : decode cX1_devicePut 65 = .ok (.putfield 40, 3) := by decide +kernel
theorem dX1_devicePut_68 : decode cX1_devicePut 68 = .ok (.return_, 1) := by decide +kernel
theorem dX1_deviceFill_0 : decode cX1_deviceFill 0 = .ok (.iload_n 1, 1) := by decide +kernel
theorem dX1_deviceFill_1 : decode cX1_deviceFill 1 = .ok (.invokestatic 95, 3) := by decide +kernel
theorem dX1_deviceFill_4 : decode cX1_deviceFill 4 = .ok (.ifCond .eq 5, 3) := by decide +kernel
theorem dX1_deviceFill_7 : decode cX1_deviceFill 7 = .ok (.iconst (-1), 1) := by decide +kernel
theorem dX1_deviceFill_8 : decode cX1_deviceFill 8 = .ok (.ireturn, 1) := by decide +kernel
theorem dX1_deviceFill_9 : decode cX1_deviceFill 9 = .ok (.iload_n 2, 1) := by decide +kernel
theorem dX1_deviceFill_10 : decode cX1_deviceFill 10 = .ok (.ifCond .lt 18, 3) := by decide +kernel
theorem dX1_deviceFill_13 : decode cX1_deviceFill 13 = .ok (.iload_n 2, 1) := by decide +kernel
theorem dX1_deviceFill_14 : decode cX1_deviceFill 14 = .ok (.bipush 64, 2) := by decide +kernel
theorem dX1_deviceFill_16 : decode cX1_deviceFill 16 = .ok (.if_icmp .gt 12, 3) := by decide +kernel
theorem dX1_deviceFill_19 : decode cX1_deviceFill 19 = .ok (.iload_n 1, 1) := by decide +kernel
theorem dX1_deviceFill_20 : decode cX1_deviceFill 20 = .ok (.iload_n 2, 1) := by decide +kernel
theorem dX1_deviceFill_21 : decode cX1_deviceFill 21 = .ok (.iadd, 1) := by decide +kernel
theorem dX1_deviceFill_22 : decode cX1_deviceFill 22 = .ok (.sipush 256, 3) := by decide +kernel
theorem dX1_deviceFill_25 : decode cX1_deviceFill 25 = .ok (.if_icmp .le 6, 3) := by decide +kernel
theorem dX1_deviceFill_28 : decode cX1_deviceFill 28 = .ok (.bipush (-2), 2) := by decide +kernel
theorem dX1_deviceFill_30 : decode cX1_deviceFill 30 = .ok (.ireturn, 1) := by decide +kernel
theorem dX1_deviceFill_31 : decode cX1_deviceFill 31 = .ok (.iconst 0, 1) := by decide +kernel
theorem dX1_deviceFill_32 : decode cX1_deviceFill 32 = .ok (.istore 4, 2) := by decide +kernel
theorem dX1_deviceFill_34 : decode cX1_deviceFill 34 = .ok (.iload 4, 2) := by decide +kernel
theorem dX1_deviceFill_36 : decode cX1_deviceFill 36 = .ok (.iload_n 2, 1) := by decide +kernel
theorem dX1_deviceFill_37 : decode cX1_deviceFill 37 = .ok (.if_icmp .ge 18, 3) := by decide +kernel
theorem dX1_deviceFill_40 : decode cX1_deviceFill 40 = .ok (.aload_n 0, 1) := by decide +kernel
theorem dX1_deviceFill_41 : decode cX1_deviceFill 41 = .ok (.iload_n 1, 1) := by decide +kernel
theorem dX1_deviceFill_42 : decode cX1_deviceFill 42 = .ok (.iload 4, 2) := by decide +kernel
theorem dX1_deviceFill_44 : decode cX1_deviceFill 44 = .ok (.iadd, 1) := by decide +kernel
theorem dX1_deviceFill_45 : decode cX1_deviceFill 45 = .ok (.iload_n 3, 1) := by decide +kernel
theorem dX1_deviceFill_46 : decode cX1_deviceFill 46 = .ok (.invokevirtual 111, 3) := by decide +kernel
theorem dX1_deviceFill_49 : decode cX1_deviceFill 49 = .ok (.iinc 4 1, 3) := by decide +kernel
theorem dX1_deviceFill_52 : decode cX1_deviceFill 52 = .ok (.goto (-18), 3) := by decide +kernel
theorem dX1_deviceFill_55 : decode cX1_deviceFill 55 = .ok (.iload_n 2, 1) := by decide +kernel
theorem dX1_deviceFill_56 : decode cX1_deviceFill 56 = .ok (.ireturn, 1) := by decide +kernel
theorem dX1_hint_0 : decode cX1_hint 0 = .ok (.iload_n 1, 1) := by decide +kernel
theorem dX1_hint_1 : decode cX1_hint 1 = .ok (.invokestatic 95, 3) := by decide +kernel
theorem dX1_hint_4 : decode cX1_hint 4 = .ok (.ifCond .eq 5, 3) := by decide +kernel
theorem dX1_hint_7 : decode cX1_hint 7 = .ok (.iconst (-1), 1) := by decide +kernel
theorem dX1_hint_8 : decode cX1_hint 8 = .ok (.ireturn, 1) := by decide +kernel
theorem dX1_hint_9 : decode cX1_hint 9 = .ok (.iload_n 2, 1) := by decide +kernel
theorem dX1_hint_10 : decode cX1_hint 10 = .ok (.iconst 3, 1) := by decide +kernel
theorem dX1_hint_11 : decode cX1_hint 11 = .ok (.iand, 1) := by decide +kernel
theorem dX1_hint_12 : decode cX1_hint 12 = .ok (.istore_n 3, 1) := by decide +kernel
theorem dX1_hint_13 : decode cX1_hint 13 = .ok (.iload_n 3, 1) := by decide +kernel
theorem dX1_hint_14 : decode cX1_hint 14 = .ok (.ifCond .ne 11, 3) := by decide +kernel
theorem dX1_hint_17 : decode cX1_hint 17 = .ok (.aload_n 0, 1) := by decide +kernel
theorem dX1_hint_18 : decode cX1_hint 18 = .ok (.iload_n 1, 1) := by decide +kernel
theorem dX1_hint_19 : decode cX1_hint 19 = .ok (.iconst 2, 1) := by decide +kernel
theorem dX1_hint_20 : decode cX1_hint 20 = .ok (.ishr, 1) := by decide +kernel
theorem dX1_hint_21 : decode cX1_hint 21 = .ok (.invokevirtual 89, 3) := by decide +kernel
theorem dX1_hint_24 : decode cX1_hint 24 = .ok (.pop, 1) := by decide +kernel
theorem dX1_hint_25 : decode cX1_hint 25 = .ok (.iconst 0, 1) := by decide +kernel
theorem dX1_hint_26 : decode cX1_hint 26 = .ok (.istore 4, 2) := by decide +kernel
theorem dX1_hint_28 : decode cX1_hint 28 = .ok (.iload 4, 2) := by decide +kernel
theorem dX1_hint_30 : decode cX1_hint 30 = .ok (.bipush 26, 2) := by decide +kernel
theorem dX1_hint_32 : decode cX1_hint 32 = .ok (.if_icmp .ge 65, 3) := by decide +kernel
theorem dX1_hint_35 : decode cX1_hint 35 = .ok (.iload_n 3, 1) := by decide +kernel
theorem dX1_hint_36 : decode cX1_hint 36 = .ok (.ifCond .le 61, 3) := by decide +kernel
theorem dX1_hint_39 : decode cX1_hint 39 = .ok (.iload_n 3, 1) := by decide +kernel
theorem dX1_hint_40 : decode cX1_hint 40 = .ok (.iconst 1, 1) := by decide +kernel
theorem dX1_hint_41 : decode cX1_hint 41 = .ok (.if_icmp .ne 12, 3) := by decide +kernel
theorem dX1_hint_44 : decode cX1_hint 44 = .ok (.aload_n 0, 1) := by decide +kernel
theorem dX1_hint_45 : decode cX1_hint 45 = .ok (.iload 4, 2) := by decide +kernel
theorem dX1_hint_47 : decode cX1_hint 47 = .ok (.invokevirtual 57, 3) := by decide +kernel
theorem dX1_hint_50 : decode cX1_hint 50 = .ok (.goto 41, 3) := by decide +kernel
theorem dX1_hint_53 : decode cX1_hint 53 = .ok (.iload_n 3, 1) := by decide +kernel
theorem dX1_hint_54 : decode cX1_hint 54 = .ok (.iconst 2, 1) := by decide +kernel
theorem dX1_hint_55 : decode cX1_hint 55 = .ok (.if_icmp .ne 12, 3) := by decide +kernel
theorem dX1_hint_58 : decode cX1_hint 58 = .ok (.aload_n 0, 1) := by decide +kernel
theorem dX1_hint_59 : decode cX1_hint 59 = .ok (.iload 4, 2) := by decide +kernel
theorem dX1_hint_61 : decode cX1_hint 61 = .ok (.invokevirtual 114, 3) := by decide +kernel
theorem dX1_hint_64 : decode cX1_hint 64 = .ok (.goto 27, 3) := by decide +kernel
theorem dX1_hint_67 : decode cX1_hint 67 = .ok (.iload 4, 2) := by decide +kernel
theorem dX1_hint_69 : decode cX1_hint 69 = .ok (.bipush 8, 2) := by decide +kernel
theorem dX1_hint_71 : decode cX1_hint 71 = .ok (.if_icmp .ge 20, 3) := by decide +kernel
theorem dX1_hint_74 : decode cX1_hint 74 = .ok (.aload_n 0, 1) := by decide +kernel
theorem dX1_hint_75 : decode cX1_hint 75 = .ok (.getfield 13, 3) := by decide +kernel
theorem dX1_hint_78 : decode cX1_hint 78 = .ok (.iload 4, 2) := by decide +kernel
theorem dX1_hint_80 : decode cX1_hint 80 = .ok (.iaload, 1) := by decide +kernel
theorem dX1_hint_81 : decode cX1_hint 81 = .ok (.iconst (-1), 1) := by decide +kernel
theorem dX1_hint_82 : decode cX1_hint 82 = .ok (.if_icmp .eq 9, 3) := by decide +kernel
theorem dX1_hint_85 : decode cX1_hint 85 = .ok (.aload_n 0, 1) := by decide +kernel
theorem dX1_hint_86 : decode cX1_hint 86 = .ok (.iload 4, 2) := by decide +kernel
theorem dX1_hint_88 : decode cX1_hint 88 = .ok (.invokevirtual 70, 3) := by decide +kernel
theorem dX1_hint_91 : decode cX1_hint 91 = .ok (.iinc 4 1, 3) := by decide +kernel
theorem dX1_hint_94 : decode cX1_hint 94 = .ok (.goto (-66), 3) := by decide +kernel
theorem dX1_hint_97 : decode cX1_hint 97 = .ok (.iconst 0, 1) := by decide +kernel
theorem dX1_hint_98 : decode cX1_hint 98 = .ok (.ireturn, 1) := by decide +kernel
theorem dX1_empty_0 : decode cX1_empty 0 = .ok (.aload_n 0, 1) := by decide +kernel
theorem dX1_empty_1 : decode cX1_empty 1 = .ok (.iload_n 1, 1) := by decide +kernel
theorem dX1_empty_2 : decode cX1_empty 2 = .ok (.invokevirtual 57, 3) := by decide +kernel
theorem dX1_empty_5 : decode cX1_empty 5 = .ok (.aload_n 0, 1) := by decide +kernel
theorem dX1_empty_6 : decode cX1_empty 6 = .ok (.getfield 13, 3) := by decide +kernel
theorem dX1_empty_9 : decode cX1_empty 9 = .ok (.iload_n 1, 1) := by decide +kernel
theorem dX1_empty_10 : decode cX1_empty 10 = .ok (.iconst (-1), 1) := by decide +kernel
theorem dX1_empty_11 : decode cX1_empty 11 = .ok (.iastore, 1) := by decide +kernel
theorem dX1_empty_12 : decode cX1_empty 12 = .ok (.return_, 1) := by decide +kernel
theorem dX1_sum_0 : decode cX1_sum 0 = .ok (.iconst 0, 1) := by decide +kernel
theorem dX1_sum_1 : decode cX1_sum 1 = .ok (.istore_n 1, 1) := by decide +kernel
theorem dX1_sum_2 : decode cX1_sum 2 = .ok (.iconst 0, 1) := by decide +kernel
theorem dX1_sum_3 : decode cX1_sum 3 = .ok (.istore_n 2, 1) := by decide +kernel
theorem dX1_sum_4 : decode cX1_sum 4 = .ok (.iload_n 2, 1) := by decide +kernel
theorem dX1_sum_5 : decode cX1_sum 5 = .ok (.sipush 256, 3) := by decide +kernel
theorem dX1_sum_8 : decode cX1_sum 8 = .ok (.if_icmp .ge 17, 3) := by decide +kernel
theorem dX1_sum_11 : decode cX1_sum 11 = .ok (.iload_n 1, 1) := by decide +kernel
theorem dX1_sum_12 : decode cX1_sum 12 = .ok (.aload_n 0, 1) := by decide +kernel
theorem dX1_sum_13 : decode cX1_sum 13 = .ok (.iload_n 2, 1) := by decide +kernel
theorem dX1_sum_14 : decode cX1_sum 14 = .ok (.invokevirtual 108, 3) := by decide +kernel
theorem dX1_sum_17 : decode cX1_sum 17 = .ok (.iadd, 1) := by decide +kernel
theorem dX1_sum_18 : decode cX1_sum 18 = .ok (.istore_n 1, 1) := by decide +kernel
theorem dX1_sum_19 : decode cX1_sum 19 = .ok (.iinc 2 1, 3) := by decide +kernel
theorem dX1_sum_22 : decode cX1_sum 22 = .ok (.goto (-18), 3) := by decide +kernel
theorem dX1_sum_25 : decode cX1_sum 25 = .ok (.iload_n 1, 1) := by decide +kernel
theorem dX1_sum_26 : decode cX1_sum 26 = .ok (.ireturn, 1) := by decide +kernel
theorem dX1_reserved_0 : decode cX1_reserved 0 = .ok (.aload_n 0, 1) := by decide +kernel
theorem dX1_reserved_1 : decode cX1_reserved 1 = .ok (.getfield 40, 3) := by decide +kernel
theorem dX1_reserved_4 : decode cX1_reserved 4 = .ok (.ireturn, 1) := by decide +kernel
end
section
set_option maxRecDepth 100000
theorem dX2_init_0 : decode cX2_init 0 = .ok (.aload_n 0, 1) := by decide +kernel
theorem dX2_init_1 : decode cX2_init 1 = .ok (.invokespecial 1, 3) := by decide +kernel
theorem dX2_init_4 : decode cX2_init 4 = .ok (.aload_n 0, 1) := by decide +kernel
theorem dX2_init_5 : decode cX2_init 5 = .ok (.sipush 256, 3) := by decide +kernel
theorem dX2_init_8 : decode cX2_init 8 = .ok (.newarray .int, 2) := by decide +kernel
theorem dX2_init_10 : decode cX2_init 10 = .ok (.putfield 7, 3) := by decide +kernel
theorem dX2_init_13 : decode cX2_init 13 = .ok (.aload_n 0, 1) := by decide +kernel
theorem dX2_init_14 : decode cX2_init 14 = .ok (.iconst (-1), 1) := by decide +kernel
theorem dX2_init_15 : decode cX2_init 15 = .ok (.putfield 13, 3) := by decide +kernel
theorem dX2_init_18 : decode cX2_init 18 = .ok (.return_, 1) := by decide +kernel
theorem dX2_load_0 : decode cX2_load 0 = .ok (.aload_n 0, 1) := by decide +kernel
theorem dX2_load_1 : decode cX2_load 1 = .ok (.iload_n 1, 1) := by decide +kernel
theorem dX2_load_2 : decode cX2_load 2 = .ok (.invokevirtual 17, 3) := by decide +kernel
theorem dX2_load_5 : decode cX2_load 5 = .ok (.ifCond .eq 12, 3) := by decide +kernel
theorem dX2_load_8 : decode cX2_load 8 = .ok (.aload_n 0, 1) := by decide +kernel
theorem dX2_load_9 : decode cX2_load 9 = .ok (.getfield 7, 3) := by decide +kernel
theorem dX2_load_12 : decode cX2_load 12 = .ok (.iload_n 1, 1) := by decide +kernel
theorem dX2_load_13 : decode cX2_load 13 = .ok (.iaload, 1) := by decide +kernel
theorem dX2_load_14 : decode cX2_load 14 = .ok (.goto 4, 3) := by decide +kernel
theorem dX2_load_17 : decode cX2_load 17 = .ok (.iconst (-1), 1) := by decide +kernel
theorem dX2_load_18 : decode cX2_load 18 = .ok (.ireturn, 1) := by decide +kernel
theorem dX2_isWord_0 : decode cX2_isWord 0 = .ok (.iload_n 1, 1) := by decide +kernel
theorem dX2_isWord_1 : decode cX2_isWord 1 = .ok (.ifCond .lt 14, 3) := by decide +kernel
theorem dX2_isWord_4 : decode cX2_isWord 4 = .ok (.iload_n 1, 1) := by decide +kernel
theorem dX2_isWord_5 : decode cX2_isWord 5 = .ok (.sipush 256, 3) := by decide +kernel
theorem dX2_isWord_8 : decode cX2_isWord 8 = .ok (.if_icmp .ge 7, 3) := by decide +kernel
theorem dX2_isWord_11 : decode cX2_isWord 11 = .ok (.iconst 1, 1) := by decide +kernel
theorem dX2_isWord_12 : decode cX2_isWord 12 = .ok (.goto 4, 3) := by decide +kernel
theorem dX2_isWord_15 : decode cX2_isWord 15 = .ok (.iconst 0, 1) := by decide +kernel
theorem dX2_isWord_16 : decode cX2_isWord 16 = .ok (.ireturn, 1) := by decide +kernel
theorem dX2_store_0 : decode cX2_store 0 = .ok (.aload_n 0, 1) := by decide +kernel
theorem dX2_store_1 : decode cX2_store 1 = .ok (.iload_n 1, 1) := by decide +kernel
theorem dX2_store_2 : decode cX2_store 2 = .ok (.invokevirtual 17, 3) := by decide +kernel
theorem dX2_store_5 : decode cX2_store 5 = .ok (.ifCond .ne 5, 3) := by decide +kernel
theorem dX2_store_8 : decode cX2_store 8 = .ok (.iconst (-1), 1) := by decide +kernel
theorem dX2_store_9 : decode cX2_store 9 = .ok (.ireturn, 1) := by decide +kernel
theorem dX2_store_10 : decode cX2_store 10 = .ok (.aload_n 0, 1) := by decide +kernel
theorem dX2_store_11 : decode cX2_store 11 = .ok (.iload_n 1, 1) := by decide +kernel
theorem dX2_store_12 : decode cX2_store 12 = .ok (.iload_n 2, 1) := by decide +kernel
theorem dX2_store_13 : decode cX2_store 13 = .ok (.invokevirtual 21, 3) := by decide +kernel
theorem dX2_store_16 : decode cX2_store 16 = .ok (.iconst 0, 1) := by decide +kernel
theorem dX2_store_17 : decode cX2_store 17 = .ok (.ireturn, 1) := by decide +kernel
theorem dX2_write_0 : decode cX2_write 0 = .ok (.aload_n 0, 1) := by decide +kernel
theorem dX2_write_1 : decode cX2_write 1 = .ok (.getfield 7, 3) := by decide +kernel
theorem dX2_write_4 : decode cX2_write 4 = .ok (.iload_n 1, 1) := by decide +kernel
theorem dX2_write_5 : decode cX2_write 5 = .ok (.iload_n 2, 1) := by decide +kernel
theorem dX2_write_6 : decode cX2_write 6 = .ok (.iastore, 1) := by decide +kernel
theorem dX2_write_7 : decode cX2_write 7 = .ok (.aload_n 0, 1) := by decide +kernel
theorem dX2_write_8 : decode cX2_write 8 = .ok (.getfield 13, 3) := by decide +kernel
theorem dX2_write_11 : decode cX2_write 11 = .ok (.iload_n 1, 1) := by decide +kernel
theorem dX2_write_12 : decode cX2_write 12 = .ok (.if_icmp .ne 8, 3) := by decide +kernel
theorem dX2_write_15 : decode cX2_write 15 = .ok (.aload_n 0, 1) := by decide +kernel
theorem dX2_write_16 : decode cX2_write 16 = .ok (.iconst (-1), 1) := by decide +kernel
theorem dX2_write_17 : decode cX2_write 17 = .ok (.putfield 13, 3) := by decide +kernel
theorem dX2_write_20 : decode cX2_write 20 = .ok (.return_, 1) := by decide +kernel
theorem dX2_loadByte_0 : decode cX2_loadByte 0 = .ok (.aload_n 0, 1) := by decide +kernel
theorem dX2_loadByte_1 : decode cX2_loadByte 1 = .ok (.iload_n 1, 1) := by decide +kernel
theorem dX2_loadByte_2 : decode cX2_loadByte 2 = .ok (.invokevirtual 25, 3) := by decide +kernel
theorem dX2_loadByte_5 : decode cX2_loadByte 5 = .ok (.ifCond .ne 5, 3) := by decide +kernel
theorem dX2_loadByte_8 : decode cX2_loadByte 8 = .ok (.iconst (-1), 1) := by decide +kernel
theorem dX2_loadByte_9 : decode cX2_loadByte 9 = .ok (.ireturn, 1) := by decide +kernel
theorem dX2_loadByte_10 : decode cX2_loadByte 10 = .ok (.aload_n 0, 1) := by decide +kernel
theorem dX2_loadByte_11 : decode cX2_loadByte 11 = .ok (.getfield 7, 3) := by decide +kernel
theorem dX2_loadByte_14 : decode cX2_loadByte 14 = .ok (.iload_n 1, 1) := by decide +kernel
theorem dX2_loadByte_15 : decode cX2_loadByte 15 = .ok (.iconst 4, 1) := by decide +kernel
theorem dX2_loadByte_16 : decode cX2_loadByte 16 = .ok (.idiv, 1) := by decide +kernel
theorem dX2_loadByte_17 : decode cX2_loadByte 17 = .ok (.iaload, 1) := by decide +kernel
theorem dX2_loadByte_18 : decode cX2_loadByte 18 = .ok (.iload_n 1, 1) := by decide +kernel
theorem dX2_loadByte_19 : decode cX2_loadByte 19 = .ok (.iconst 4, 1) := by decide +kernel
theorem dX2_loadByte_20 : decode cX2_loadByte 20 = .ok (.irem, 1) := by decide +kernel
theorem dX2_loadByte_21 : decode cX2_loadByte 21 = .ok (.bipush 8, 2) := by decide +kernel
theorem dX2_loadByte_23 : decode cX2_loadByte 23 = .ok (.imul, 1) := by decide +kernel
theorem dX2_loadByte_24 : decode cX2_loadByte 24 = .ok (.ishr, 1) := by decide +kernel
theorem dX2_loadByte_25 : decode cX2_loadByte 25 = .ok (.sipush 255, 3) := by decide +kernel
theorem dX2_loadByte_28 : decode cX2_loadByte 28 = .ok (.iand, 1) := by decide +kernel
theorem dX2_loadByte_29 : decode cX2_loadByte 29 = .ok (.istore_n 3, 1) := by decide +kernel
theorem dX2_loadByte_30 : decode cX2_loadByte 30 = .ok (.iload_n 2, 1) := by decide +kernel
theorem dX2_loadByte_31 : decode cX2_loadByte 31 = .ok (.ifCond .eq 17, 3) := by decide +kernel
theorem dX2_loadByte_34 : decode cX2_loadByte 34 = .ok (.iload_n 3, 1) := by decide +kernel
theorem dX2_loadByte_35 : decode cX2_loadByte 35 = .ok (.bipush 127, 2) := by decide +kernel
theorem dX2_loadByte_37 : decode cX2_loadByte 37 = .ok (.if_icmp .le 11, 3) := by decide +kernel
theorem dX2_loadByte_40 : decode cX2_loadByte 40 = .ok (.iload_n 3, 1) := by decide +kernel
theorem dX2_loadByte_41 : decode cX2_loadByte 41 = .ok (.sipush 256, 3) := by decide +kernel
theorem dX2_loadByte_44 : decode cX2_loadByte 44 = .ok (.isub, 1) := by decide +kernel
theorem dX2_loadByte_45 : decode cX2_loadByte 45 = .ok (.goto 4, 3) := by decide +kernel
theorem dX2_loadByte_48 : decode cX2_loadByte 48 = .ok (.iload_n 3, 1) := by decide +kernel
theorem dX2_loadByte_49 : decode cX2_loadByte 49 = .ok (.ireturn, 1) := by decide +kernel
theorem dX2_isByte_0 : decode cX2_isByte 0 = .ok (.iload_n 1, 1) := by decide +kernel
theorem dX2_isByte_1 : decode cX2_isByte 1 = .ok (.ifCond .lt 14, 3) := by decide +kernel
theorem dX2_isByte_4 : decode cX2_isByte 4 = .ok (.iload_n 1, 1) := by decide +kernel
theorem dX2_isByte_5 : decode cX2_isByte 5 = .ok (.sipush 1024, 3) := by decide +kernel
theorem dX2_isByte_8 : decode cX2_isByte 8 = .ok (.if_icmp .ge 7, 3) := by decide +kernel
theorem dX2_isByte_11 : decode cX2_isByte 11 = .ok (.iconst 1, 1) := by decide +kernel
theorem dX2_isByte_12 : decode cX2_isByte 12 = .ok (.goto 4, 3) := by decide +kernel
theorem dX2_isByte_15 : decode cX2_isByte 15 = .ok (.iconst 0, 1) := by decide +kernel
theorem dX2_isByte_16 : decode cX2_isByte 16 = .ok (.ireturn, 1) := by decide +kernel
theorem dX2_storeByte_0 : decode cX2_storeByte 0 = .ok (.aload_n 0, 1) := by decide +kernel
theorem dX2_storeByte_1 : decode cX2_storeByte 1 = .ok (.iload_n 1, 1) := by decide +kernel
theorem dX2_storeByte_2 : decode cX2_storeByte 2 = .ok (.invokevirtual 25, 3) := by decide +kernel
theorem dX2_storeByte_5 : decode cX2_storeByte 5 = .ok (.ifCond .ne 5, 3) := by decide +kernel
theorem dX2_storeByte_8 : decode cX2_storeByte 8 = .ok (.iconst (-1), 1) := by decide +kernel
theorem dX2_storeByte_9 : decode cX2_storeByte 9 = .ok (.ireturn, 1) := by decide +kernel
theorem dX2_storeByte_10 : decode cX2_storeByte 10 = .ok (.iload_n 1, 1) := by decide +kernel
theorem dX2_storeByte_11 : decode cX2_storeByte 11 = .ok (.iconst 4, 1) := by decide +kernel
theorem dX2_storeByte_12 : decode cX2_storeByte 12 = .ok (.irem, 1) := by decide +kernel
theorem dX2_storeByte_13 : decode cX2_storeByte 13 = .ok (.bipush 8, 2) := by decide +kernel
theorem dX2_storeByte_15 : decode cX2_storeByte 15 = .ok (.imul, 1) := by decide +kernel
theorem dX2_storeByte_16 : decode cX2_storeByte 16 = .ok (.istore_n 3, 1) := by decide +kernel
theorem dX2_storeByte_17 : decode cX2_storeByte 17 = .ok (.aload_n 0, 1) := by decide +kernel
theorem dX2_storeByte_18 : decode cX2_storeByte 18 = .ok (.getfield 7, 3) := by decide +kernel
theorem dX2_storeByte_21 : decode cX2_storeByte 21 = .ok (.iload_n 1, 1) := by decide +kernel
theorem dX2_storeByte_22 : decode cX2_storeByte 22 = .ok (.iconst 4, 1) := by decide +kernel
theorem dX2_storeByte_23 : decode cX2_storeByte 23 = .ok (.idiv, 1) := by decide +kernel
theorem dX2_storeByte_24 : decode cX2_storeByte 24 = .ok (.iaload, 1) := by decide +kernel
theorem dX2_storeByte_25 : decode cX2_storeByte 25 = .ok (.sipush 255, 3) := by decide +kernel
theorem dX2_storeByte_28 : decode cX2_storeByte 28 = .ok (.iload_n 3, 1) := by decide +kernel
theorem dX2_storeByte_29 : decode cX2_storeByte 29 = .ok (.ishl, 1) := by decide +kernel
theorem dX2_storeByte_30 : decode cX2_storeByte 30 = .ok (.iconst (-1), 1) := by decide +kernel
theorem dX2_storeByte_31 : decode cX2_storeByte 31 = .ok (.ixor, 1) := by decide +kernel
theorem dX2_storeByte_32 : decode cX2_storeByte 32 = .ok (.iand, 1) := by decide +kernel
theorem dX2_storeByte_33 : decode cX2_storeByte 33 = .ok (.istore 4, 2) := by decide +kernel
theorem dX2_storeByte_35 : decode cX2_storeByte 35 = .ok (.aload_n 0, 1) := by decide +kernel
theorem dX2_storeByte_36 : decode cX2_storeByte 36 = .ok (.iload_n 1, 1) := by decide +kernel
theorem dX2_storeByte_37 : decode cX2_storeByte 37 = .ok (.iconst 4, 1) := by decide +kernel
theorem dX2_storeByte_38 : decode cX2_storeByte 38 = .ok (.idiv, 1) := by decide +kernel
theorem dX2_storeByte_39 : decode cX2_storeByte 39 = .ok (.iload 4, 2) := by decide +kernel
theorem dX2_storeByte_41 : decode cX2_storeByte 41 = .ok (.iload_n 2, 1) := by decide +kernel
theorem dX2_storeByte_42 : decode cX2_storeByte 42 = .ok (.sipush 255, 3) := by decide +kernel
theorem dX2_storeByte_45 : decode cX2_storeByte 45 = .ok (.iand, 1) := by decide +kernel
theorem dX2_storeByte_46 : decode cX2_storeByte 46 = .ok (.iload_n 3, 1) := by decide +kernel
theorem dX2_storeByte_47 : decode cX2_storeByte 47 = .ok (.ishl, 1) := by decide +kernel
theorem dX2_storeByte_48 : decode cX2_storeByte 48 = .ok (.ior, 1) := by decide +kernel
theorem dX2_storeByte_49 : decode cX2_storeByte 49 = .ok (.invokevirtual 21, 3) := by decide +kernel
theorem dX2_storeByte_52 : decode cX2_storeByte 52 = .ok (.iconst 0, 1) := by decide +kernel
theorem dX2_storeByte_53 : decode cX2_storeByte 53 = .ok (.ireturn, 1) := by decide +kernel
theorem dX2_swap_0 : decode cX2_swap 0 = .ok (.aload_n 0, 1) := by decide +kernel
theorem dX2_swap_1 : decode cX2_swap 1 = .ok (.iload_n 1, 1) := by decide +kernel
theorem dX2_swap_2 : decode cX2_swap 2 = .ok (.invokevirtual 28, 3) := by decide +kernel
theorem dX2_swap_5 : decode cX2_swap 5 = .ok (.istore_n 3, 1) := by decide +kernel
theorem dX2_swap_6 : decode cX2_swap 6 = .ok (.aload_n 0, 1) := by decide +kernel
theorem dX2_swap_7 : decode cX2_swap 7 = .ok (.iload_n 1, 1) := by decide +kernel
theorem dX2_swap_8 : decode cX2_swap 8 = .ok (.iload_n 2, 1) := by decide +kernel
theorem dX2_swap_9 : decode cX2_swap 9 = .ok (.invokevirtual 32, 3) := by decide +kernel
theorem dX2_swap_12 : decode cX2_swap 12 = .ok (.pop, 1) := by decide +kernel
theorem dX2_swap_13 : decode cX2_swap 13 = .ok (.iload_n 3, 1) := by decide +kernel
theorem dX2_swap_14 : decode cX2_swap 14 = .ok (.ireturn, 1) := by decide +kernel
theorem dX2_addTo_0 : decode cX2_addTo 0 = .ok (.aload_n 0, 1) := by decide +kernel
theorem dX2_addTo_1 : decode cX2_addTo 1 = .ok (.iload_n 1, 1) := by decide +kernel
theorem dX2_addTo_2 : decode cX2_addTo 2 = .ok (.invokevirtual 17, 3) := by decide +kernel
theorem dX2_addTo_5 : decode cX2_addTo 5 = .ok (.ifCond .ne 5, 3) := by decide +kernel
theorem dX2_addTo_8 : decode cX2_addTo 8 = .ok (.iconst (-1), 1) := by decide +kernel
theorem dX2_addTo_9 : decode cX2_addTo 9 = .ok (.ireturn, 1) := by decide +kernel
theorem dX2_addTo_10 : decode cX2_addTo 10 = .ok (.aload_n 0, 1) := by decide +kernel
theorem dX2_addTo_11 : decode cX2_addTo 11 = .ok (.iload_n 1, 1) := by decide +kernel
theorem dX2_addTo_12 : decode cX2_addTo 12 = .ok (.aload_n 0, 1) := by decide +kernel
theorem dX2_addTo_13 : decode cX2_addTo 13 = .ok (.getfield 7, 3) := by decide +kernel
theorem dX2_addTo_16 : decode cX2_addTo 16 = .ok (.iload_n 1, 1) := by decide +kernel
theorem dX2_addTo_17 : decode cX2_addTo 17 = .ok (.iaload, 1) := by decide +kernel
theorem dX2_addTo_18 : decode cX2_addTo 18 = .ok (.iload_n 2, 1) := by decide +kernel
theorem dX2_addTo_19 : decode cX2_addTo 19 = .ok (.iadd, 1) := by decide +kernel
theorem dX2_addTo_20 : decode cX2_addTo 20 = .ok (.invokevirtual 21, 3) := by decide +kernel
theorem dX2_addTo_23 : decode cX2_addTo 23 = .ok (.aload_n 0, 1) := by decide +kernel
theorem dX2_addTo_24 : decode cX2_addTo 24 = .ok (.getfield 7, 3) := by decide +kernel
theorem dX2_addTo_27 : decode cX2_addTo 27 = .ok (.iload_n 1, 1) := by decide +kernel
theorem dX2_addTo_28 : decode cX2_addTo 28 = .ok (.iaload, 1) := by decide +kernel
theorem dX2_addTo_29 : decode cX2_addTo 29 = .ok (.ireturn, 1) := by decide +kernel
theorem dX2_loadReserved_0 : decode cX2_loadReserved 0 = .ok (.aload_n 0, 1) := by decide +kernel
theorem dX2_loadReserved_1 : decode cX2_loadReserved 1 = .ok (.iload_n 1, 1) := by decide +kernel
theorem dX2_loadReserved_2 : decode cX2_loadReserved 2 = .ok (.invokevirtual 17, 3) := by decide +kernel
theorem dX2_loadReserved_5 : decode cX2_loadReserved 5 = .ok (.ifCond .eq 8, 3) := by decide +kernel
theorem dX2_loadReserved_8 : decode cX2_loadReserved 8 = .ok (.aload_n 0, 1) := by decide +kernel
theorem dX2_loadReserved_9 : decode cX2_loadReserved 9 = .ok (.iload_n 1, 1) := by decide +kernel
theorem dX2_loadReserved_10 : decode cX2_loadReserved 10 = .ok (.putfield 13, 3) := by decide +kernel
theorem dX2_loadReserved_13 : decode cX2_loadReserved 13 = .ok (.aload_n 0, 1) := by decide +kernel
theorem dX2_loadReserved_14 : decode cX2_loadReserved 14 = .ok (.iload_n 1, 1) := by decide +kernel
theorem dX2_loadReserved_15 : decode cX2_loadReserved 15 = .ok (.invokevirtual 28, 3) := by decide +kernel
theorem dX2_loadReserved_18 : decode cX2_loadReserved 18 = .ok (.ireturn, 1) := by decide +kernel
theorem dX2_storeConditional_0 : decode cX2_storeConditional 0 = .ok (.aload_n 0, 1) := by decide +kernel
theorem dX2_storeConditional_1 : decode cX2_storeConditional 1 = .ok (.iload_n 1, 1) := by decide +kernel
theorem dX2_storeConditional_2 : decode cX2_storeConditional 2 = .ok (.invokevirtual 17, 3) := by decide +kernel
theorem dX2_storeConditional_5 : decode cX2_storeConditional 5 = .ok (.ifCond .ne 5, 3) := by decide +kernel
theorem dX2_storeConditional_8 : decode cX2_storeConditional 8 = .ok (.iconst (-1), 1) := by decide +kernel
theorem dX2_storeConditional_9 : decode cX2_storeConditional 9 = .ok (.ireturn, 1) := by decide +kernel
theorem dX2_storeConditional_10 : decode cX2_storeConditional 10 = .ok (.aload_n 0, 1) := by decide +kernel
theorem dX2_storeConditional_11 : decode cX2_storeConditional 11 = .ok (.getfield 13, 3) := by decide +kernel
theorem dX2_storeConditional_14 : decode cX2_storeConditional 14 = .ok (.iload_n 1, 1) := by decide +kernel
theorem dX2_storeConditional_15 : decode cX2_storeConditional 15 = .ok (.if_icmp .ne 7, 3) := by decide +kernel
theorem dX2_storeConditional_18 : decode cX2_storeConditional 18 = .ok (.iconst 1, 1) := by decide +kernel
theorem dX2_storeConditional_19 : decode cX2_storeConditional 19 = .ok (.goto 4, 3) := by decide +kernel
theorem dX2_storeConditional_22 : decode cX2_storeConditional 22 = .ok (.iconst 0, 1) := by decide +kernel
theorem dX2_storeConditional_23 : decode cX2_storeConditional 23 = .ok (.istore_n 3, 1) := by decide +kernel
theorem dX2_storeConditional_24 : decode cX2_storeConditional 24 = .ok (.iload_n 3, 1) := by decide +kernel
theorem dX2_storeConditional_25 : decode cX2_storeConditional 25 = .ok (.ifCond .eq 9, 3) := by decide +kernel
theorem dX2_storeConditional_28 : decode cX2_storeConditional 28 = .ok (.aload_n 0, 1) := by decide +kernel
theorem dX2_storeConditional_29 : decode cX2_storeConditional 29 = .ok (.iload_n 1, 1) := by decide +kernel
theorem dX2_storeConditional_30 : decode cX2_storeConditional 30 = .ok (.iload_n 2, 1) := by decide +kernel
theorem dX2_storeConditional_31 : decode cX2_storeConditional 31 = .ok (.invokevirtual 21, 3) := by decide +kernel
theorem dX2_storeConditional_34 : decode cX2_storeConditional 34 = .ok (.aload_n 0, 1) := by decide +kernel
theorem dX2_storeConditional_35 : decode cX2_storeConditional 35 = .ok (.iconst (-1), 1) := by decide +kernel
theorem dX2_storeConditional_36 : decode cX2_storeConditional 36 = .ok (.putfield 13, 3) := by decide +kernel
theorem dX2_storeConditional_39 : decode cX2_storeConditional 39 = .ok (.iload_n 3, 1) := by decide +kernel
theorem dX2_storeConditional_40 : decode cX2_storeConditional 40 = .ok (.ifCond .eq 7, 3) := by decide +kernel
theorem dX2_storeConditional_43 : decode cX2_storeConditional 43 = .ok (.iconst 1, 1) := by decide +kernel
theorem dX2_storeConditional_44 : decode cX2_storeConditional 44 = .ok (.goto 4, 3) := by decide +kernel
theorem dX2_storeConditional_47 : decode cX2_storeConditional 47 = .ok (.iconst 0, 1) := by decide +kernel
theorem dX2_storeConditional_48 : decode cX2_storeConditional 48 = .ok (.ireturn, 1) := by decide +kernel
theorem dX2_copy_0 : decode cX2_copy 0 = .ok (.aload_n 0, 1) := by decide +kernel
theorem dX2_copy_1 : decode cX2_copy 1 = .ok (.iload_n 1, 1) := by decide +kernel
theorem dX2_copy_2 : decode cX2_copy 2 = .ok (.invokevirtual 17, 3) := by decide +kernel
theorem dX2_copy_5 : decode cX2_copy 5 = .ok (.ifCond .eq 11, 3) := by decide +kernel
theorem dX2_copy_8 : decode cX2_copy 8 = .ok (.aload_n 0, 1) := by decide +kernel
theorem dX2_copy_9 : decode cX2_copy 9 = .ok (.iload_n 2, 1) := by decide +kernel
theorem dX2_copy_10 : decode cX2_copy 10 = .ok (.invokevirtual 17, 3) := by decide +kernel
theorem dX2_copy_13 : decode cX2_copy 13 = .ok (.ifCond .ne 5, 3) := by decide +kernel
theorem dX2_copy_16 : decode cX2_copy 16 = .ok (.iconst (-1), 1) := by decide +kernel
theorem dX2_copy_17 : decode cX2_copy 17 = .ok (.ireturn, 1) := by decide +kernel
theorem dX2_copy_18 : decode cX2_copy 18 = .ok (.iload_n 3, 1) := by decide +kernel
theorem dX2_copy_19 : decode cX2_copy 19 = .ok (.ifCond .lt 27, 3) := by decide +kernel
theorem dX2_copy_22 : decode cX2_copy 22 = .ok (.iload_n 3, 1) := by decide +kernel
theorem dX2_copy_23 : decode cX2_copy 23 = .ok (.bipush 32, 2) := by decide +kernel
theorem dX2_copy_25 : decode cX2_copy 25 = .ok (.if_icmp .gt 21, 3) := by decide +kernel
theorem dX2_copy_28 : decode cX2_copy 28 = .ok (.iload_n 1, 1) := by decide +kernel
theorem dX2_copy_29 : decode cX2_copy 29 = .ok (.iload_n 3, 1) := by decide +kernel
theorem dX2_copy_30 : decode cX2_copy 30 = .ok (.iadd, 1) := by decide +kernel
theorem dX2_copy_31 : decode cX2_copy 31 = .ok (.sipush 256, 3) := by decide +kernel
theorem dX2_copy_34 : decode cX2_copy 34 = .ok (.if_icmp .gt 12, 3) := by decide +kernel
theorem dX2_copy_37 : decode cX2_copy 37 = .ok (.iload_n 2, 1) := by decide +kernel
theorem dX2_copy_38 : decode cX2_copy 38 = .ok (.iload_n 3, 1) := by decide +kernel
theorem dX2_copy_39 : decode cX2_copy 39 = .ok (.iadd, 1) := by decide +kernel
theorem dX2_copy_40 : decode cX2_copy 40 = .ok (.sipush 256, 3) := by decide +kernel
theorem dX2_copy_43 : decode cX2_copy 43 = .ok (.if_icmp .le 6, 3) := by decide +kernel
theorem dX2_copy_46 : decode cX2_copy 46 = .ok (.bipush (-2), 2) := by decide +kernel
theorem dX2_copy_48 : decode cX2_copy 48 = .ok (.ireturn, 1) := by decide +kernel
theorem dX2_copy_49 : decode cX2_copy 49 = .ok (.iconst 0, 1) := by decide +kernel
theorem dX2_copy_50 : decode cX2_copy 50 = .ok (.istore 4, 2) := by decide +kernel
theorem dX2_copy_52 : decode cX2_copy 52 = .ok (.iload 4, 2) := by decide +kernel
theorem dX2_copy_54 : decode cX2_copy 54 = .ok (.iload_n 3, 1) := by decide +kernel
theorem dX2_copy_55 : decode cX2_copy 55 = .ok (.if_icmp .ge 26, 3) := by decide +kernel
theorem dX2_copy_58 : decode cX2_copy 58 = .ok (.aload_n 0, 1) := by decide +kernel
theorem dX2_copy_59 : decode cX2_copy 59 = .ok (.iload_n 2, 1) := by decide +kernel
theorem dX2_copy_60 : decode cX2_copy 60 = .ok (.iload 4, 2) := by decide +kernel
theorem dX2_copy_62 : decode cX2_copy 62 = .ok (.iadd, 1) := by decide +kernel
theorem dX2_copy_63 : decode cX2_copy 63 = .ok (.aload_n 0, 1) := by decide +kernel
theorem dX2_copy_64 : decode cX2_copy 64 = .ok (.getfield 7, 3) := by decide +kernel
theorem dX2_copy_67 : decode cX2_copy 67 = .ok (.iload_n 1, 1) := by decide +kernel
theorem dX2_copy_68 : decode cX2_copy 68 = .ok (.iload 4, 2) := by decide +kernel
theorem dX2_copy_70 : decode cX2_copy 70 = .ok (.iadd, 1) := by decide +kernel
theorem dX2_copy_71 : decode cX2_copy 71 = .ok (.iaload, 1) := by decide +kernel
theorem dX2_copy_72 : decode cX2_copy 72 = .ok (.invokevirtual 21, 3) := by decide +kernel
theorem dX2_copy_75 : decode cX2_copy 75 = .ok (.iinc 4 1, 3) := by decide +kernel
theorem dX2_copy_78 : decode cX2_copy 78 = .ok (.goto (-26), 3) := by decide +kernel
theorem dX2_copy_81 : decode cX2_copy 81 = .ok (.iload_n 3, 1) := by decide +kernel
theorem dX2_copy_82 : decode cX2_copy 82 = .ok (.ireturn, 1) := by decide +kernel
theorem dX2_deviceRead_0 : decode cX2_deviceRead 0 = .ok (.aload_n 0, 1) := by decide +kernel
theorem dX2_deviceRead_1 : decode cX2_deviceRead 1 = .ok (.iload_n 1, 1) := by decide +kernel
theorem dX2_deviceRead_2 : decode cX2_deviceRead 2 = .ok (.invokevirtual 28, 3) := by decide +kernel
theorem dX2_deviceRead_5 : decode cX2_deviceRead 5 = .ok (.ireturn, 1) := by decide +kernel
theorem dX2_deviceWrite_0 : decode cX2_deviceWrite 0 = .ok (.aload_n 0, 1) := by decide +kernel
theorem dX2_deviceWrite_1 : decode cX2_deviceWrite 1 = .ok (.iload_n 1, 1) := by decide +kernel
theorem dX2_deviceWrite_2 : decode cX2_deviceWrite 2 = .ok (.iload_n 2, 1) := by decide +kernel
theorem dX2_deviceWrite_3 : decode cX2_deviceWrite 3 = .ok (.invokevirtual 32, 3) := by decide +kernel
theorem dX2_deviceWrite_6 : decode cX2_deviceWrite 6 = .ok (.ireturn, 1) := by decide +kernel
theorem dX2_deviceFill_0 : decode cX2_deviceFill 0 = .ok (.aload_n 0, 1) := by decide +kernel
theorem dX2_deviceFill_1 : decode cX2_deviceFill 1 = .ok (.iload_n 1, 1) := by decide +kernel
theorem dX2_deviceFill_2 : decode cX2_deviceFill 2 = .ok (.invokevirtual 17, 3) := by decide +kernel
theorem dX2_deviceFill_5 : decode cX2_deviceFill 5 = .ok (.ifCond .ne 5, 3) := by decide +kernel
theorem dX2_deviceFill_8 : decode cX2_deviceFill 8 = .ok (.iconst (-1), 1) := by decide +kernel
theorem dX2_deviceFill_9 : decode cX2_deviceFill 9 = .ok (.ireturn, 1) := by decide +kernel
theorem dX2_deviceFill_10 : decode cX2_deviceFill 10 = .ok (.iload_n 2, 1) := by decide +kernel
theorem dX2_deviceFill_11 : decode cX2_deviceFill 11 = .ok (.ifCond .lt 18, 3) := by decide +kernel
theorem dX2_deviceFill_14 : decode cX2_deviceFill 14 = .ok (.iload_n 2, 1) := by decide +kernel
theorem dX2_deviceFill_15 : decode cX2_deviceFill 15 = .ok (.bipush 64, 2) := by decide +kernel
theorem dX2_deviceFill_17 : decode cX2_deviceFill 17 = .ok (.if_icmp .gt 12, 3) := by decide +kernel
theorem dX2_deviceFill_20 : decode cX2_deviceFill 20 = .ok (.iload_n 1, 1) := by decide +kernel
theorem dX2_deviceFill_21 : decode cX2_deviceFill 21 = .ok (.iload_n 2, 1) := by decide +kernel
theorem dX2_deviceFill_22 : decode cX2_deviceFill 22 = .ok (.iadd, 1) := by decide +kernel
theorem dX2_deviceFill_23 : decode cX2_deviceFill 23 = .ok (.sipush 256, 3) := by decide +kernel
theorem dX2_deviceFill_26 : decode cX2_deviceFill 26 = .ok (.if_icmp .le 6, 3) := by decide +kernel
theorem dX2_deviceFill_29 : decode cX2_deviceFill 29 = .ok (.bipush (-2), 2) := by decide +kernel
theorem dX2_deviceFill_31 : decode cX2_deviceFill 31 = .ok (.ireturn, 1) := by decide +kernel
theorem dX2_deviceFill_32 : decode cX2_deviceFill 32 = .ok (.iconst 0, 1) := by decide +kernel
theorem dX2_deviceFill_33 : decode cX2_deviceFill 33 = .ok (.istore 4, 2) := by decide +kernel
theorem dX2_deviceFill_35 : decode cX2_deviceFill 35 = .ok (.iload 4, 2) := by decide +kernel
theorem dX2_deviceFill_37 : decode cX2_deviceFill 37 = .ok (.iload_n 2, 1) := by decide +kernel
theorem dX2_deviceFill_38 : decode cX2_deviceFill 38 = .ok (.if_icmp .ge 18, 3) := by decide +kernel
theorem dX2_deviceFill_41 : decode cX2_deviceFill 41 = .ok (.aload_n 0, 1) := by decide +kernel
theorem dX2_deviceFill_42 : decode cX2_deviceFill 42 = .ok (.iload_n 1, 1) := by decide +kernel
theorem dX2_deviceFill_43 : decode cX2_deviceFill 43 = .ok (.iload 4, 2) := by decide +kernel
theorem dX2_deviceFill_45 : decode cX2_deviceFill 45 = .ok (.iadd, 1) := by decide +kernel
theorem dX2_deviceFill_46 : decode cX2_deviceFill 46 = .ok (.iload_n 3, 1) := by decide +kernel
theorem dX2_deviceFill_47 : decode cX2_deviceFill 47 = .ok (.invokevirtual 21, 3) := by decide +kernel
theorem dX2_deviceFill_50 : decode cX2_deviceFill 50 = .ok (.iinc 4 1, 3) := by decide +kernel
theorem dX2_deviceFill_53 : decode cX2_deviceFill 53 = .ok (.goto (-18), 3) := by decide +kernel
theorem dX2_deviceFill_56 : decode cX2_deviceFill 56 = .ok (.iload_n 2, 1) := by decide +kernel
theorem dX2_deviceFill_57 : decode cX2_deviceFill 57 = .ok (.ireturn, 1) := by decide +kernel
theorem dX2_hint_0 : decode cX2_hint 0 = .ok (.aload_n 0, 1) := by decide +kernel
theorem dX2_hint_1 : decode cX2_hint 1 = .ok (.iload_n 1, 1) := by decide +kernel
theorem dX2_hint_2 : decode cX2_hint 2 = .ok (.invokevirtual 17, 3) := by decide +kernel
theorem dX2_hint_5 : decode cX2_hint 5 = .ok (.ifCond .eq 7, 3) := by decide +kernel
theorem dX2_hint_8 : decode cX2_hint 8 = .ok (.iconst 0, 1) := by decide +kernel
theorem dX2_hint_9 : decode cX2_hint 9 = .ok (.goto 4, 3) := by decide +kernel
theorem dX2_hint_12 : decode cX2_hint 12 = .ok (.iconst (-1), 1) := by decide +kernel
theorem dX2_hint_13 : decode cX2_hint 13 = .ok (.ireturn, 1) := by decide +kernel
theorem dX2_sum_0 : decode cX2_sum 0 = .ok (.iconst 0, 1) := by decide +kernel
theorem dX2_sum_1 : decode cX2_sum 1 = .ok (.istore_n 1, 1) := by decide +kernel
theorem dX2_sum_2 : decode cX2_sum 2 = .ok (.iconst 0, 1) := by decide +kernel
theorem dX2_sum_3 : decode cX2_sum 3 = .ok (.istore_n 2, 1) := by decide +kernel
theorem dX2_sum_4 : decode cX2_sum 4 = .ok (.iload_n 2, 1) := by decide +kernel
theorem dX2_sum_5 : decode cX2_sum 5 = .ok (.sipush 256, 3) := by decide +kernel
theorem dX2_sum_8 : decode cX2_sum 8 = .ok (.if_icmp .ge 18, 3) := by decide +kernel
theorem dX2_sum_11 : decode cX2_sum 11 = .ok (.iload_n 1, 1) := by decide +kernel
theorem dX2_sum_12 : decode cX2_sum 12 = .ok (.aload_n 0, 1) := by decide +kernel
theorem dX2_sum_13 : decode cX2_sum 13 = .ok (.getfield 7, 3) := by decide +kernel
theorem dX2_sum_16 : decode cX2_sum 16 = .ok (.iload_n 2, 1) := by decide +kernel
theorem dX2_sum_17 : decode cX2_sum 17 = .ok (.iaload, 1) := by decide +kernel
theorem dX2_sum_18 : decode cX2_sum 18 = .ok (.iadd, 1) := by decide +kernel
theorem dX2_sum_19 : decode cX2_sum 19 = .ok (.istore_n 1, 1) := by decide +kernel
theorem dX2_sum_20 : decode cX2_sum 20 = .ok (.iinc 2 1, 3) := by decide +kernel
theorem dX2_sum_23 : decode cX2_sum 23 = .ok (.goto (-19), 3) := by decide +kernel
theorem dX2_sum_26 : decode cX2_sum 26 = .ok (.iload_n 1, 1) := by decide +kernel
theorem dX2_sum_27 : decode cX2_sum 27 = .ok (.ireturn, 1) := by decide +kernel
theorem dX2_reserved_0 : decode cX2_reserved 0 = .ok (.aload_n 0, 1) := by decide +kernel
theorem dX2_reserved_1 : decode cX2_reserved 1 = .ok (.getfield 13, 3) := by decide +kernel
theorem dX2_reserved_4 : decode cX2_reserved 4 = .ok (.ireturn, 1) := by decide +kernel
theorem dX0_cell_0 : decode cX0_cell 0 = .ok (.iload_n 1, 1) := by decide +kernel
theorem dX0_cell_1 : decode cX0_cell 1 = .ok (.aload_n 0, 1) := by decide +kernel
theorem dX0_cell_2 : decode cX0_cell 2 = .ok (.arraylength, 1) := by decide +kernel
theorem dX0_cell_3 : decode cX0_cell 3 = .ok (.if_icmp .ge 9, 3) := by decide +kernel
theorem dX0_cell_6 : decode cX0_cell 6 = .ok (.aload_n 0, 1) := by decide +kernel
theorem dX0_cell_7 : decode cX0_cell 7 = .ok (.iload_n 1, 1) := by decide +kernel
theorem dX0_cell_8 : decode cX0_cell 8 = .ok (.iaload, 1) := by decide +kernel
theorem dX0_cell_9 : decode cX0_cell 9 = .ok (.goto 4, 3) := by decide +kernel
theorem dX0_cell_12 : decode cX0_cell 12 = .ok (.iconst 0, 1) := by decide +kernel
theorem dX0_cell_13 : decode cX0_cell 13 = .ok (.ireturn, 1) := by decide +kernel
theorem dJ0_init_0 : decode cJ0_init 0 = .ok (.return_, 1) := by decide +kernel
end
section
set_option maxRecDepth 100000
theorem dL_law_0 : decode cL_law 0 = .ok (.new 7, 3) := by decide +kernel
theorem dL_law_3 : decode cL_law 3 = .ok (.dup, 1) := by decide +kernel
theorem dL_law_4 : decode cL_law 4 = .ok (.aload_n 0, 1) := by decide +kernel
theorem dL_law_5 : decode cL_law 5 = .ok (.iconst 0, 1) := by decide +kernel
theorem dL_law_6 : decode cL_law 6 = .ok (.invokestatic 9, 3) := by decide +kernel
theorem dL_law_9 : decode cL_law 9 = .ok (.invokespecial 15, 3) := by decide +kernel
theorem dL_law_12 : decode cL_law 12 = .ok (.astore_n 1, 1) := by decide +kernel
theorem dL_law_13 : decode cL_law 13 = .ok (.new 18, 3) := by decide +kernel
theorem dL_law_16 : decode cL_law 16 = .ok (.dup, 1) := by decide +kernel
theorem dL_law_17 : decode cL_law 17 = .ok (.aload_n 0, 1) := by decide +kernel
theorem dL_law_18 : decode cL_law 18 = .ok (.iconst 0, 1) := by decide +kernel
theorem dL_law_19 : decode cL_law 19 = .ok (.invokestatic 9, 3) := by decide +kernel
theorem dL_law_22 : decode cL_law 22 = .ok (.invokespecial 20, 3) := by decide +kernel
theorem dL_law_25 : decode cL_law 25 = .ok (.astore_n 2, 1) := by decide +kernel
theorem dL_law_26 : decode cL_law 26 = .ok (.iconst 1, 1) := by decide +kernel
theorem dL_law_27 : decode cL_law 27 = .ok (.istore_n 3, 1) := by decide +kernel
theorem dL_law_28 : decode cL_law 28 = .ok (.iload_n 3, 1) := by decide +kernel
theorem dL_law_29 : decode cL_law 29 = .ok (.aload_n 0, 1) := by decide +kernel
theorem dL_law_30 : decode cL_law 30 = .ok (.arraylength, 1) := by decide +kernel
theorem dL_law_31 : decode cL_law 31 = .ok (.iconst 4, 1) := by decide +kernel
theorem dL_law_32 : decode cL_law 32 = .ok (.isub, 1) := by decide +kernel
theorem dL_law_33 : decode cL_law 33 = .ok (.if_icmp .gt 550, 3) := by decide +kernel
theorem dL_law_36 : decode cL_law 36 = .ok (.aload_n 0, 1) := by decide +kernel
theorem dL_law_37 : decode cL_law 37 = .ok (.iload_n 3, 1) := by decide +kernel
theorem dL_law_38 : decode cL_law 38 = .ok (.iaload, 1) := by decide +kernel
theorem dL_law_39 : decode cL_law 39 = .ok (.bipush 15, 2) := by decide +kernel
theorem dL_law_41 : decode cL_law 41 = .ok (.iand, 1) := by decide +kernel
theorem dL_law_42 : decode cL_law 42 = .ok (.tableswitch 535 0 14 #[74, 97, 130, 179, 212, 245, 278, 301, 334, 377, 400, 433, 476, 509, 522], 74) := by decide +kernel
theorem dL_law_116 : decode cL_law 116 = .ok (.aload_n 1, 1) := by decide +kernel
theorem dL_law_117 : decode cL_law 117 = .ok (.aload_n 0, 1) := by decide +kernel
theorem dL_law_118 : decode cL_law 118 = .ok (.iload_n 3, 1) := by decide +kernel
theorem dL_law_119 : decode cL_law 119 = .ok (.iconst 1, 1) := by decide +kernel
theorem dL_law_120 : decode cL_law 120 = .ok (.iadd, 1) := by decide +kernel
theorem dL_law_121 : decode cL_law 121 = .ok (.iaload, 1) := by decide +kernel
theorem dL_law_122 : decode cL_law 122 = .ok (.invokevirtual 21, 3) := by decide +kernel
theorem dL_law_125 : decode cL_law 125 = .ok (.aload_n 2, 1) := by decide +kernel
theorem dL_law_126 : decode cL_law 126 = .ok (.aload_n 0, 1) := by decide +kernel
theorem dL_law_127 : decode cL_law 127 = .ok (.iload_n 3, 1) := by decide +kernel
theorem dL_law_128 : decode cL_law 128 = .ok (.iconst 1, 1) := by decide +kernel
theorem dL_law_129 : decode cL_law 129 = .ok (.iadd, 1) := by decide +kernel
theorem dL_law_130 : decode cL_law 130 = .ok (.iaload, 1) := by decide +kernel
theorem dL_law_131 : decode cL_law 131 = .ok (.invokevirtual 25, 3) := by decide +kernel
theorem dL_law_134 : decode cL_law 134 = .ok (.if_icmp .eq 443, 3) := by decide +kernel
theorem dL_law_137 : decode cL_law 137 = .ok (.iconst 0, 1) := by decide +kernel
theorem dL_law_138 : decode cL_law 138 = .ok (.ireturn, 1) := by decide +kernel
theorem dL_law_139 : decode cL_law 139 = .ok (.aload_n 1, 1) := by decide +kernel
theorem dL_law_140 : decode cL_law 140 = .ok (.aload_n 0, 1) := by decide +kernel
theorem dL_law_141 : decode cL_law 141 = .ok (.iload_n 3, 1) := by decide +kernel
theorem dL_law_142 : decode cL_law 142 = .ok (.iconst 1, 1) := by decide +kernel
theorem dL_law_143 : decode cL_law 143 = .ok (.iadd, 1) := by decide +kernel
theorem dL_law_144 : decode cL_law 144 = .ok (.iaload, 1) := by decide +kernel
theorem dL_law_145 : decode cL_law 145 = .ok (.aload_n 0, 1) := by decide +kernel
theorem dL_law_146 : decode cL_law 146 = .ok (.iload_n 3, 1) := by decide +kernel
theorem dL_law_147 : decode cL_law 147 = .ok (.iconst 2, 1) := by decide +kernel
theorem dL_law_148 : decode cL_law 148 = .ok (.iadd, 1) := by decide +kernel
theorem dL_law_149 : decode cL_law 149 = .ok (.iaload, 1) := by decide +kernel
theorem dL_law_150 : decode cL_law 150 = .ok (.invokevirtual 26, 3) := by decide +kernel
theorem dL_law_153 : decode cL_law 153 = .ok (.aload_n 2, 1) := by decide +kernel
theorem dL_law_154 : decode cL_law 154 = .ok (.aload_n 0, 1) := by decide +kernel
theorem dL_law_155 : decode cL_law 155 = .ok (.iload_n 3, 1) := by decide +kernel
theorem dL_law_156 : decode cL_law 156 = .ok (.iconst 1, 1) := by decide +kernel
theorem dL_law_157 : decode cL_law 157 = .ok (.iadd, 1) := by decide +kernel
theorem dL_law_158 : decode cL_law 158 = .ok (.iaload, 1) := by decide +kernel
theorem dL_law_159 : decode cL_law 159 = .ok (.aload_n 0, 1) := by decide +kernel
theorem dL_law_160 : decode cL_law 160 = .ok (.iload_n 3, 1) := by decide +kernel
theorem dL_law_161 : decode cL_law 161 = .ok (.iconst 2, 1) := by decide +kernel
theorem dL_law_162 : decode cL_law 162 = .ok (.iadd, 1) := by decide +kernel
theorem dL_law_163 : decode cL_law 163 = .ok (.iaload, 1) := by decide +kernel
theorem dL_law_164 : decode cL_law 164 = .ok (.invokevirtual 30, 3) := by decide +kernel
theorem dL_law_167 : decode cL_law 167 = .ok (.if_icmp .eq 410, 3) := by decide +kernel
theorem dL_law_170 : decode cL_law 170 = .ok (.iconst 0, 1) := by decide +kernel
theorem dL_law_171 : decode cL_law 171 = .ok (.ireturn, 1) := by decide +kernel
theorem dL_law_172 : decode cL_law 172 = .ok (.aload_n 1, 1) := by decide +kernel
theorem dL_law_173 : decode cL_law 173 = .ok (.aload_n 0, 1) := by decide +kernel
theorem dL_law_174 : decode cL_law 174 = .ok (.iload_n 3, 1) := by decide +kernel
theorem dL_law_175 : decode cL_law 175 = .ok (.iconst 1, 1) := by decide +kernel
theorem dL_law_176 : decode cL_law 176 = .ok (.iadd, 1) := by decide +kernel
theorem dL_law_177 : decode cL_law 177 = .ok (.iaload, 1) := by decide +kernel
theorem dL_law_178 : decode cL_law 178 = .ok (.aload_n 0, 1) := by decide +kernel
theorem dL_law_179 : decode cL_law 179 = .ok (.iload_n 3, 1) := by decide +kernel
theorem dL_law_180 : decode cL_law 180 = .ok (.iconst 2, 1) := by decide +kernel
theorem dL_law_181 : decode cL_law 181 = .ok (.iadd, 1) := by decide +kernel
theorem dL_law_182 : decode cL_law 182 = .ok (.iaload, 1) := by decide +kernel
theorem dL_law_183 : decode cL_law 183 = .ok (.ifCond .eq 7, 3) := by decide +kernel
theorem dL_law_186 : decode cL_law 186 = .ok (.iconst 1, 1) := by decide +kernel
theorem dL_law_187 : decode cL_law 187 = .ok (.goto 4, 3) := by decide +kernel
theorem dL_law_190 : decode cL_law 190 = .ok (.iconst 0, 1) := by decide +kernel
theorem dL_law_191 : decode cL_law 191 = .ok (.invokevirtual 31, 3) := by decide +kernel
theorem dL_law_194 : decode cL_law 194 = .ok (.aload_n 2, 1) := by decide +kernel
theorem dL_law_195 : decode cL_law 195 = .ok (.aload_n 0, 1) := by decide +kernel
theorem dL_law_196 : decode cL_law 196 = .ok (.iload_n 3, 1) := by decide +kernel
theorem dL_law_197 : decode cL_law 197 = .ok (.iconst 1, 1) := by decide +kernel
theorem dL_law_198 : decode cL_law 198 = .ok (.iadd, 1) := by decide +kernel
theorem dL_law_199 : decode cL_law 199 = .ok (.iaload, 1) := by decide +kernel
theorem dL_law_200 : decode cL_law 200 = .ok (.aload_n 0, 1) := by decide +kernel
theorem dL_law_201 : decode cL_law 201 = .ok (.iload_n 3, 1) := by decide +kernel
theorem dL_law_202 : decode cL_law 202 = .ok (.iconst 2, 1) := by decide +kernel
theorem dL_law_203 : decode cL_law 203 = .ok (.iadd, 1) := by decide +kernel
theorem dL_law_204 : decode cL_law 204 = .ok (.iaload, 1) := by decide +kernel
end
section
set_option maxRecDepth 100000
theorem dL_law_205 : decode cL_law 205 = .ok (.ifCond .eq 7, 3) := by decide +kernel
theorem dL_law_208 : decode cL_law 208 = .ok (.iconst 1, 1) := by decide +kernel
theorem dL_law_209 : decode cL_law 209 = .ok (.goto 4, 3) := by decide +kernel
theorem dL_law_212 : decode cL_law 212 = .ok (.iconst 0, 1) := by decide +kernel
theorem dL_law_213 : decode cL_law 213 = .ok (.invokevirtual 35, 3) := by decide +kernel
theorem dL_law_216 : decode cL_law 216 = .ok (.if_icmp .eq 361, 3) := by decide +kernel
theorem dL_law_219 : decode cL_law 219 = .ok (.iconst 0, 1) := by decide +kernel
theorem dL_law_220 : decode cL_law 220 = .ok (.ireturn, 1) := by decide +kernel
theorem dL_law_221 : decode cL_law 221 = .ok (.aload_n 1, 1) := by decide +kernel
theorem dL_law_222 : decode cL_law 222 = .ok (.aload_n 0, 1) := by decide +kernel
theorem dL_law_223 : decode cL_law 223 = .ok (.iload_n 3, 1) := by decide +kernel
theorem dL_law_224 : decode cL_law 224 = .ok (.iconst 1, 1) := by decide +kernel
theorem dL_law_225 : decode cL_law 225 = .ok (.iadd, 1) := by decide +kernel
theorem dL_law_226 : decode cL_law 226 = .ok (.iaload, 1) := by decide +kernel
theorem dL_law_227 : decode cL_law 227 = .ok (.aload_n 0, 1) := by decide +kernel
theorem dL_law_228 : decode cL_law 228 = .ok (.iload_n 3, 1) := by decide +kernel
theorem dL_law_229 : decode cL_law 229 = .ok (.iconst 2, 1) := by decide +kernel
theorem dL_law_230 : decode cL_law 230 = .ok (.iadd, 1) := by decide +kernel
theorem dL_law_231 : decode cL_law 231 = .ok (.iaload, 1) := by decide +kernel
theorem dL_law_232 : decode cL_law 232 = .ok (.invokevirtual 36, 3) := by decide +kernel
theorem dL_law_235 : decode cL_law 235 = .ok (.aload_n 2, 1) := by decide +kernel
theorem dL_law_236 : decode cL_law 236 = .ok (.aload_n 0, 1) := by decide +kernel
theorem dL_law_237 : decode cL_law 237 = .ok (.iload_n 3, 1) := by decide +kernel
theorem dL_law_238 : decode cL_law 238 = .ok (.iconst 1, 1) := by decide +kernel
theorem dL_law_239 : decode cL_law 239 = .ok (.iadd, 1) := by decide +kernel
theorem dL_law_240 : decode cL_law 240 = .ok (.iaload, 1) := by decide +kernel
theorem dL_law_241 : decode cL_law 241 = .ok (.aload_n 0, 1) := by decide +kernel
theorem dL_law_242 : decode cL_law 242 = .ok (.iload_n 3, 1) := by decide +kernel
theorem dL_law_243 : decode cL_law 243 = .ok (.iconst 2, 1) := by decide +kernel
theorem dL_law_244 : decode cL_law 244 = .ok (.iadd, 1) := by decide +kernel
theorem dL_law_245 : decode cL_law 245 = .ok (.iaload, 1) := by decide +kernel
theorem dL_law_246 : decode cL_law 246 = .ok (.invokevirtual 39, 3) := by decide +kernel
theorem dL_law_249 : decode cL_law 249 = .ok (.if_icmp .eq 328, 3) := by decide +kernel
theorem dL_law_252 : decode cL_law 252 = .ok (.iconst 0, 1) := by decide +kernel
theorem dL_law_253 : decode cL_law 253 = .ok (.ireturn, 1) := by decide +kernel
theorem dL_law_254 : decode cL_law 254 = .ok (.aload_n 1, 1) := by decide +kernel
theorem dL_law_255 : decode cL_law 255 = .ok (.aload_n 0, 1) := by decide +kernel
theorem dL_law_256 : decode cL_law 256 = .ok (.iload_n 3, 1) := by decide +kernel
theorem dL_law_257 : decode cL_law 257 = .ok (.iconst 1, 1) := by decide +kernel
theorem dL_law_258 : decode cL_law 258 = .ok (.iadd, 1) := by decide +kernel
theorem dL_law_259 : decode cL_law 259 = .ok (.iaload, 1) := by decide +kernel
theorem dL_law_260 : decode cL_law 260 = .ok (.aload_n 0, 1) := by decide +kernel
theorem dL_law_261 : decode cL_law 261 = .ok (.iload_n 3, 1) := by decide +kernel
theorem dL_law_262 : decode cL_law 262 = .ok (.iconst 2, 1) := by decide +kernel
theorem dL_law_263 : decode cL_law 263 = .ok (.iadd, 1) := by decide +kernel
theorem dL_law_264 : decode cL_law 264 = .ok (.iaload, 1) := by decide +kernel
theorem dL_law_265 : decode cL_law 265 = .ok (.invokevirtual 40, 3) := by decide +kernel
theorem dL_law_268 : decode cL_law 268 = .ok (.aload_n 2, 1) := by decide +kernel
theorem dL_law_269 : decode cL_law 269 = .ok (.aload_n 0, 1) := by decide +kernel
theorem dL_law_270 : decode cL_law 270 = .ok (.iload_n 3, 1) := by decide +kernel
theorem dL_law_271 : decode cL_law 271 = .ok (.iconst 1, 1) := by decide +kernel
theorem dL_law_272 : decode cL_law 272 = .ok (.iadd, 1) := by decide +kernel
theorem dL_law_273 : decode cL_law 273 = .ok (.iaload, 1) := by decide +kernel
theorem dL_law_274 : decode cL_law 274 = .ok (.aload_n 0, 1) := by decide +kernel
theorem dL_law_275 : decode cL_law 275 = .ok (.iload_n 3, 1) := by decide +kernel
theorem dL_law_276 : decode cL_law 276 = .ok (.iconst 2, 1) := by decide +kernel
theorem dL_law_277 : decode cL_law 277 = .ok (.iadd, 1) := by decide +kernel
theorem dL_law_278 : decode cL_law 278 = .ok (.iaload, 1) := by decide +kernel
theorem dL_law_279 : decode cL_law 279 = .ok (.invokevirtual 43, 3) := by decide +kernel
theorem dL_law_282 : decode cL_law 282 = .ok (.if_icmp .eq 295, 3) := by decide +kernel
theorem dL_law_285 : decode cL_law 285 = .ok (.iconst 0, 1) := by decide +kernel
theorem dL_law_286 : decode cL_law 286 = .ok (.ireturn, 1) := by decide +kernel
theorem dL_law_287 : decode cL_law 287 = .ok (.aload_n 1, 1) := by decide +kernel
theorem dL_law_288 : decode cL_law 288 = .ok (.aload_n 0, 1) := by decide +kernel
theorem dL_law_289 : decode cL_law 289 = .ok (.iload_n 3, 1) := by decide +kernel
theorem dL_law_290 : decode cL_law 290 = .ok (.iconst 1, 1) := by decide +kernel
theorem dL_law_291 : decode cL_law 291 = .ok (.iadd, 1) := by decide +kernel
theorem dL_law_292 : decode cL_law 292 = .ok (.iaload, 1) := by decide +kernel
theorem dL_law_293 : decode cL_law 293 = .ok (.aload_n 0, 1) := by decide +kernel
theorem dL_law_294 : decode cL_law 294 = .ok (.iload_n 3, 1) := by decide +kernel
theorem dL_law_295 : decode cL_law 295 = .ok (.iconst 2, 1) := by decide +kernel
theorem dL_law_296 : decode cL_law 296 = .ok (.iadd, 1) := by decide +kernel
theorem dL_law_297 : decode cL_law 297 = .ok (.iaload, 1) := by decide +kernel
theorem dL_law_298 : decode cL_law 298 = .ok (.invokevirtual 44, 3) := by decide +kernel
theorem dL_law_301 : decode cL_law 301 = .ok (.aload_n 2, 1) := by decide +kernel
theorem dL_law_302 : decode cL_law 302 = .ok (.aload_n 0, 1) := by decide +kernel
theorem dL_law_303 : decode cL_law 303 = .ok (.iload_n 3, 1) := by decide +kernel
theorem dL_law_304 : decode cL_law 304 = .ok (.iconst 1, 1) := by decide +kernel
theorem dL_law_305 : decode cL_law 305 = .ok (.iadd, 1) := by decide +kernel
theorem dL_law_306 : decode cL_law 306 = .ok (.iaload, 1) := by decide +kernel
theorem dL_law_307 : decode cL_law 307 = .ok (.aload_n 0, 1) := by decide +kernel
theorem dL_law_308 : decode cL_law 308 = .ok (.iload_n 3, 1) := by decide +kernel
theorem dL_law_309 : decode cL_law 309 = .ok (.iconst 2, 1) := by decide +kernel
theorem dL_law_310 : decode cL_law 310 = .ok (.iadd, 1) := by decide +kernel
theorem dL_law_311 : decode cL_law 311 = .ok (.iaload, 1) := by decide +kernel
theorem dL_law_312 : decode cL_law 312 = .ok (.invokevirtual 47, 3) := by decide +kernel
theorem dL_law_315 : decode cL_law 315 = .ok (.if_icmp .eq 262, 3) := by decide +kernel
theorem dL_law_318 : decode cL_law 318 = .ok (.iconst 0, 1) := by decide +kernel
theorem dL_law_319 : decode cL_law 319 = .ok (.ireturn, 1) := by decide +kernel
theorem dL_law_320 : decode cL_law 320 = .ok (.aload_n 1, 1) := by decide +kernel
theorem dL_law_321 : decode cL_law 321 = .ok (.aload_n 0, 1) := by decide +kernel
theorem dL_law_322 : decode cL_law 322 = .ok (.iload_n 3, 1) := by decide +kernel
theorem dL_law_323 : decode cL_law 323 = .ok (.iconst 1, 1) := by decide +kernel
theorem dL_law_324 : decode cL_law 324 = .ok (.iadd, 1) := by decide +kernel
theorem dL_law_325 : decode cL_law 325 = .ok (.iaload, 1) := by decide +kernel
theorem dL_law_326 : decode cL_law 326 = .ok (.invokevirtual 48, 3) := by decide +kernel
theorem dL_law_329 : decode cL_law 329 = .ok (.aload_n 2, 1) := by decide +kernel
theorem dL_law_330 : decode cL_law 330 = .ok (.aload_n 0, 1) := by decide +kernel
theorem dL_law_331 : decode cL_law 331 = .ok (.iload_n 3, 1) := by decide +kernel
end
section
set_option maxRecDepth 100000
theorem dL_law_332 : decode cL_law 332 = .ok (.iconst 1, 1) := by decide +kernel
theorem dL_law_333 : decode cL_law 333 = .ok (.iadd, 1) := by decide +kernel
theorem dL_law_334 : decode cL_law 334 = .ok (.iaload, 1) := by decide +kernel
theorem dL_law_335 : decode cL_law 335 = .ok (.invokevirtual 51, 3) := by decide +kernel
theorem dL_law_338 : decode cL_law 338 = .ok (.if_icmp .eq 239, 3) := by decide +kernel
theorem dL_law_341 : decode cL_law 341 = .ok (.iconst 0, 1) := by decide +kernel
theorem dL_law_342 : decode cL_law 342 = .ok (.ireturn, 1) := by decide +kernel
theorem dL_law_343 : decode cL_law 343 = .ok (.aload_n 1, 1) := by decide +kernel
theorem dL_law_344 : decode cL_law 344 = .ok (.aload_n 0, 1) := by decide +kernel
theorem dL_law_345 : decode cL_law 345 = .ok (.iload_n 3, 1) := by decide +kernel
theorem dL_law_346 : decode cL_law 346 = .ok (.iconst 1, 1) := by decide +kernel
theorem dL_law_347 : decode cL_law 347 = .ok (.iadd, 1) := by decide +kernel
theorem dL_law_348 : decode cL_law 348 = .ok (.iaload, 1) := by decide +kernel
theorem dL_law_349 : decode cL_law 349 = .ok (.aload_n 0, 1) := by decide +kernel
theorem dL_law_350 : decode cL_law 350 = .ok (.iload_n 3, 1) := by decide +kernel
theorem dL_law_351 : decode cL_law 351 = .ok (.iconst 2, 1) := by decide +kernel
theorem dL_law_352 : decode cL_law 352 = .ok (.iadd, 1) := by decide +kernel
theorem dL_law_353 : decode cL_law 353 = .ok (.iaload, 1) := by decide +kernel
theorem dL_law_354 : decode cL_law 354 = .ok (.invokevirtual 52, 3) := by decide +kernel
theorem dL_law_357 : decode cL_law 357 = .ok (.aload_n 2, 1) := by decide +kernel
theorem dL_law_358 : decode cL_law 358 = .ok (.aload_n 0, 1) := by decide +kernel
theorem dL_law_359 : decode cL_law 359 = .ok (.iload_n 3, 1) := by decide +kernel
theorem dL_law_360 : decode cL_law 360 = .ok (.iconst 1, 1) := by decide +kernel
theorem dL_law_361 : decode cL_law 361 = .ok (.iadd, 1) := by decide +kernel
theorem dL_law_362 : decode cL_law 362 = .ok (.iaload, 1) := by decide +kernel
theorem dL_law_363 : decode cL_law 363 = .ok (.aload_n 0, 1) := by decide +kernel
theorem dL_law_364 : decode cL_law 364 = .ok (.iload_n 3, 1) := by decide +kernel
theorem dL_law_365 : decode cL_law 365 = .ok (.iconst 2, 1) := by decide +kernel
theorem dL_law_366 : decode cL_law 366 = .ok (.iadd, 1) := by decide +kernel
theorem dL_law_367 : decode cL_law 367 = .ok (.iaload, 1) := by decide +kernel
theorem dL_law_368 : decode cL_law 368 = .ok (.invokevirtual 55, 3) := by decide +kernel
theorem dL_law_371 : decode cL_law 371 = .ok (.if_icmp .eq 206, 3) := by decide +kernel
theorem dL_law_374 : decode cL_law 374 = .ok (.iconst 0, 1) := by decide +kernel
theorem dL_law_375 : decode cL_law 375 = .ok (.ireturn, 1) := by decide +kernel
theorem dL_law_376 : decode cL_law 376 = .ok (.aload_n 1, 1) := by decide +kernel
theorem dL_law_377 : decode cL_law 377 = .ok (.aload_n 0, 1) := by decide +kernel
theorem dL_law_378 : decode cL_law 378 = .ok (.iload_n 3, 1) := by decide +kernel
theorem dL_law_379 : decode cL_law 379 = .ok (.iconst 1, 1) := by decide +kernel
theorem dL_law_380 : decode cL_law 380 = .ok (.iadd, 1) := by decide +kernel
theorem dL_law_381 : decode cL_law 381 = .ok (.iaload, 1) := by decide +kernel
theorem dL_law_382 : decode cL_law 382 = .ok (.aload_n 0, 1) := by decide +kernel
theorem dL_law_383 : decode cL_law 383 = .ok (.iload_n 3, 1) := by decide +kernel
theorem dL_law_384 : decode cL_law 384 = .ok (.iconst 2, 1) := by decide +kernel
theorem dL_law_385 : decode cL_law 385 = .ok (.iadd, 1) := by decide +kernel
theorem dL_law_386 : decode cL_law 386 = .ok (.iaload, 1) := by decide +kernel
theorem dL_law_387 : decode cL_law 387 = .ok (.aload_n 0, 1) := by decide +kernel
theorem dL_law_388 : decode cL_law 388 = .ok (.iload_n 3, 1) := by decide +kernel
theorem dL_law_389 : decode cL_law 389 = .ok (.iconst 3, 1) := by decide +kernel
theorem dL_law_390 : decode cL_law 390 = .ok (.iadd, 1) := by decide +kernel
theorem dL_law_391 : decode cL_law 391 = .ok (.iaload, 1) := by decide +kernel
theorem dL_law_392 : decode cL_law 392 = .ok (.invokevirtual 56, 3) := by decide +kernel
theorem dL_law_395 : decode cL_law 395 = .ok (.aload_n 2, 1) := by decide +kernel
theorem dL_law_396 : decode cL_law 396 = .ok (.aload_n 0, 1) := by decide +kernel
theorem dL_law_397 : decode cL_law 397 = .ok (.iload_n 3, 1) := by decide +kernel
theorem dL_law_398 : decode cL_law 398 = .ok (.iconst 1, 1) := by decide +kernel
theorem dL_law_399 : decode cL_law 399 = .ok (.iadd, 1) := by decide +kernel
theorem dL_law_400 : decode cL_law 400 = .ok (.iaload, 1) := by decide +kernel
theorem dL_law_401 : decode cL_law 401 = .ok (.aload_n 0, 1) := by decide +kernel
theorem dL_law_402 : decode cL_law 402 = .ok (.iload_n 3, 1) := by decide +kernel
theorem dL_law_403 : decode cL_law 403 = .ok (.iconst 2, 1) := by decide +kernel
theorem dL_law_404 : decode cL_law 404 = .ok (.iadd, 1) := by decide +kernel
theorem dL_law_405 : decode cL_law 405 = .ok (.iaload, 1) := by decide +kernel
theorem dL_law_406 : decode cL_law 406 = .ok (.aload_n 0, 1) := by decide +kernel
theorem dL_law_407 : decode cL_law 407 = .ok (.iload_n 3, 1) := by decide +kernel
theorem dL_law_408 : decode cL_law 408 = .ok (.iconst 3, 1) := by decide +kernel
theorem dL_law_409 : decode cL_law 409 = .ok (.iadd, 1) := by decide +kernel
theorem dL_law_410 : decode cL_law 410 = .ok (.iaload, 1) := by decide +kernel
theorem dL_law_411 : decode cL_law 411 = .ok (.invokevirtual 60, 3) := by decide +kernel
theorem dL_law_414 : decode cL_law 414 = .ok (.if_icmp .eq 163, 3) := by decide +kernel
theorem dL_law_417 : decode cL_law 417 = .ok (.iconst 0, 1) := by decide +kernel
theorem dL_law_418 : decode cL_law 418 = .ok (.ireturn, 1) := by decide +kernel
theorem dL_law_419 : decode cL_law 419 = .ok (.aload_n 1, 1) := by decide +kernel
theorem dL_law_420 : decode cL_law 420 = .ok (.aload_n 0, 1) := by decide +kernel
theorem dL_law_421 : decode cL_law 421 = .ok (.iload_n 3, 1) := by decide +kernel
theorem dL_law_422 : decode cL_law 422 = .ok (.iconst 1, 1) := by decide +kernel
theorem dL_law_423 : decode cL_law 423 = .ok (.iadd, 1) := by decide +kernel
theorem dL_law_424 : decode cL_law 424 = .ok (.iaload, 1) := by decide +kernel
theorem dL_law_425 : decode cL_law 425 = .ok (.invokevirtual 61, 3) := by decide +kernel
theorem dL_law_428 : decode cL_law 428 = .ok (.aload_n 2, 1) := by decide +kernel
theorem dL_law_429 : decode cL_law 429 = .ok (.aload_n 0, 1) := by decide +kernel
theorem dL_law_430 : decode cL_law 430 = .ok (.iload_n 3, 1) := by decide +kernel
theorem dL_law_431 : decode cL_law 431 = .ok (.iconst 1, 1) := by decide +kernel
theorem dL_law_432 : decode cL_law 432 = .ok (.iadd, 1) := by decide +kernel
theorem dL_law_433 : decode cL_law 433 = .ok (.iaload, 1) := by decide +kernel
theorem dL_law_434 : decode cL_law 434 = .ok (.invokevirtual 64, 3) := by decide +kernel
theorem dL_law_437 : decode cL_law 437 = .ok (.if_icmp .eq 140, 3) := by decide +kernel
theorem dL_law_440 : decode cL_law 440 = .ok (.iconst 0, 1) := by decide +kernel
theorem dL_law_441 : decode cL_law 441 = .ok (.ireturn, 1) := by decide +kernel
theorem dL_law_442 : decode cL_law 442 = .ok (.aload_n 1, 1) := by decide +kernel
theorem dL_law_443 : decode cL_law 443 = .ok (.aload_n 0, 1) := by decide +kernel
theorem dL_law_444 : decode cL_law 444 = .ok (.iload_n 3, 1) := by decide +kernel
theorem dL_law_445 : decode cL_law 445 = .ok (.iconst 1, 1) := by decide +kernel
theorem dL_law_446 : decode cL_law 446 = .ok (.iadd, 1) := by decide +kernel
theorem dL_law_447 : decode cL_law 447 = .ok (.iaload, 1) := by decide +kernel
theorem dL_law_448 : decode cL_law 448 = .ok (.aload_n 0, 1) := by decide +kernel
theorem dL_law_449 : decode cL_law 449 = .ok (.iload_n 3, 1) := by decide +kernel
theorem dL_law_450 : decode cL_law 450 = .ok (.iconst 2, 1) := by decide +kernel
theorem dL_law_451 : decode cL_law 451 = .ok (.iadd, 1) := by decide +kernel
theorem dL_law_452 : decode cL_law 452 = .ok (.iaload, 1) := by decide +kernel
end
section
set_option maxRecDepth 100000
theorem dL_law_453 : decode cL_law 453 = .ok (.invokevirtual 65, 3) := by decide +kernel
theorem dL_law_456 : decode cL_law 456 = .ok (.aload_n 2, 1) := by decide +kernel
theorem dL_law_457 : decode cL_law 457 = .ok (.aload_n 0, 1) := by decide +kernel
theorem dL_law_458 : decode cL_law 458 = .ok (.iload_n 3, 1) := by decide +kernel
theorem dL_law_459 : decode cL_law 459 = .ok (.iconst 1, 1) := by decide +kernel
theorem dL_law_460 : decode cL_law 460 = .ok (.iadd, 1) := by decide +kernel
theorem dL_law_461 : decode cL_law 461 = .ok (.iaload, 1) := by decide +kernel
theorem dL_law_462 : decode cL_law 462 = .ok (.aload_n 0, 1) := by decide +kernel
theorem dL_law_463 : decode cL_law 463 = .ok (.iload_n 3, 1) := by decide +kernel
theorem dL_law_464 : decode cL_law 464 = .ok (.iconst 2, 1) := by decide +kernel
theorem dL_law_465 : decode cL_law 465 = .ok (.iadd, 1) := by decide +kernel
theorem dL_law_466 : decode cL_law 466 = .ok (.iaload, 1) := by decide +kernel
theorem dL_law_467 : decode cL_law 467 = .ok (.invokevirtual 68, 3) := by decide +kernel
theorem dL_law_470 : decode cL_law 470 = .ok (.if_icmp .eq 107, 3) := by decide +kernel
theorem dL_law_473 : decode cL_law 473 = .ok (.iconst 0, 1) := by decide +kernel
theorem dL_law_474 : decode cL_law 474 = .ok (.ireturn, 1) := by decide +kernel
theorem dL_law_475 : decode cL_law 475 = .ok (.aload_n 1, 1) := by decide +kernel
theorem dL_law_476 : decode cL_law 476 = .ok (.aload_n 0, 1) := by decide +kernel
theorem dL_law_477 : decode cL_law 477 = .ok (.iload_n 3, 1) := by decide +kernel
theorem dL_law_478 : decode cL_law 478 = .ok (.iconst 1, 1) := by decide +kernel
theorem dL_law_479 : decode cL_law 479 = .ok (.iadd, 1) := by decide +kernel
theorem dL_law_480 : decode cL_law 480 = .ok (.iaload, 1) := by decide +kernel
theorem dL_law_481 : decode cL_law 481 = .ok (.aload_n 0, 1) := by decide +kernel
theorem dL_law_482 : decode cL_law 482 = .ok (.iload_n 3, 1) := by decide +kernel
theorem dL_law_483 : decode cL_law 483 = .ok (.iconst 2, 1) := by decide +kernel
theorem dL_law_484 : decode cL_law 484 = .ok (.iadd, 1) := by decide +kernel
theorem dL_law_485 : decode cL_law 485 = .ok (.iaload, 1) := by decide +kernel
theorem dL_law_486 : decode cL_law 486 = .ok (.aload_n 0, 1) := by decide +kernel
theorem dL_law_487 : decode cL_law 487 = .ok (.iload_n 3, 1) := by decide +kernel
theorem dL_law_488 : decode cL_law 488 = .ok (.iconst 3, 1) := by decide +kernel
theorem dL_law_489 : decode cL_law 489 = .ok (.iadd, 1) := by decide +kernel
theorem dL_law_490 : decode cL_law 490 = .ok (.iaload, 1) := by decide +kernel
theorem dL_law_491 : decode cL_law 491 = .ok (.invokevirtual 69, 3) := by decide +kernel
theorem dL_law_494 : decode cL_law 494 = .ok (.aload_n 2, 1) := by decide +kernel
theorem dL_law_495 : decode cL_law 495 = .ok (.aload_n 0, 1) := by decide +kernel
theorem dL_law_496 : decode cL_law 496 = .ok (.iload_n 3, 1) := by decide +kernel
theorem dL_law_497 : decode cL_law 497 = .ok (.iconst 1, 1) := by decide +kernel
theorem dL_law_498 : decode cL_law 498 = .ok (.iadd, 1) := by decide +kernel
theorem dL_law_499 : decode cL_law 499 = .ok (.iaload, 1) := by decide +kernel
theorem dL_law_500 : decode cL_law 500 = .ok (.aload_n 0, 1) := by decide +kernel
theorem dL_law_501 : decode cL_law 501 = .ok (.iload_n 3, 1) := by decide +kernel
theorem dL_law_502 : decode cL_law 502 = .ok (.iconst 2, 1) := by decide +kernel
theorem dL_law_503 : decode cL_law 503 = .ok (.iadd, 1) := by decide +kernel
theorem dL_law_504 : decode cL_law 504 = .ok (.iaload, 1) := by decide +kernel
theorem dL_law_505 : decode cL_law 505 = .ok (.aload_n 0, 1) := by decide +kernel
theorem dL_law_506 : decode cL_law 506 = .ok (.iload_n 3, 1) := by decide +kernel
theorem dL_law_507 : decode cL_law 507 = .ok (.iconst 3, 1) := by decide +kernel
theorem dL_law_508 : decode cL_law 508 = .ok (.iadd, 1) := by decide +kernel
theorem dL_law_509 : decode cL_law 509 = .ok (.iaload, 1) := by decide +kernel
theorem dL_law_510 : decode cL_law 510 = .ok (.invokevirtual 72, 3) := by decide +kernel
theorem dL_law_513 : decode cL_law 513 = .ok (.if_icmp .eq 64, 3) := by decide +kernel
theorem dL_law_516 : decode cL_law 516 = .ok (.iconst 0, 1) := by decide +kernel
theorem dL_law_517 : decode cL_law 517 = .ok (.ireturn, 1) := by decide +kernel
theorem dL_law_518 : decode cL_law 518 = .ok (.aload_n 1, 1) := by decide +kernel
theorem dL_law_519 : decode cL_law 519 = .ok (.aload_n 0, 1) := by decide +kernel
theorem dL_law_520 : decode cL_law 520 = .ok (.iload_n 3, 1) := by decide +kernel
theorem dL_law_521 : decode cL_law 521 = .ok (.iconst 1, 1) := by decide +kernel
theorem dL_law_522 : decode cL_law 522 = .ok (.iadd, 1) := by decide +kernel
theorem dL_law_523 : decode cL_law 523 = .ok (.iaload, 1) := by decide +kernel
theorem dL_law_524 : decode cL_law 524 = .ok (.aload_n 0, 1) := by decide +kernel
theorem dL_law_525 : decode cL_law 525 = .ok (.iload_n 3, 1) := by decide +kernel
theorem dL_law_526 : decode cL_law 526 = .ok (.iconst 2, 1) := by decide +kernel
theorem dL_law_527 : decode cL_law 527 = .ok (.iadd, 1) := by decide +kernel
theorem dL_law_528 : decode cL_law 528 = .ok (.iaload, 1) := by decide +kernel
theorem dL_law_529 : decode cL_law 529 = .ok (.invokevirtual 73, 3) := by decide +kernel
theorem dL_law_532 : decode cL_law 532 = .ok (.aload_n 2, 1) := by decide +kernel
theorem dL_law_533 : decode cL_law 533 = .ok (.aload_n 0, 1) := by decide +kernel
theorem dL_law_534 : decode cL_law 534 = .ok (.iload_n 3, 1) := by decide +kernel
theorem dL_law_535 : decode cL_law 535 = .ok (.iconst 1, 1) := by decide +kernel
theorem dL_law_536 : decode cL_law 536 = .ok (.iadd, 1) := by decide +kernel
theorem dL_law_537 : decode cL_law 537 = .ok (.iaload, 1) := by decide +kernel
theorem dL_law_538 : decode cL_law 538 = .ok (.aload_n 0, 1) := by decide +kernel
theorem dL_law_539 : decode cL_law 539 = .ok (.iload_n 3, 1) := by decide +kernel
theorem dL_law_540 : decode cL_law 540 = .ok (.iconst 2, 1) := by decide +kernel
theorem dL_law_541 : decode cL_law 541 = .ok (.iadd, 1) := by decide +kernel
theorem dL_law_542 : decode cL_law 542 = .ok (.iaload, 1) := by decide +kernel
theorem dL_law_543 : decode cL_law 543 = .ok (.invokevirtual 76, 3) := by decide +kernel
theorem dL_law_546 : decode cL_law 546 = .ok (.if_icmp .eq 31, 3) := by decide +kernel
theorem dL_law_549 : decode cL_law 549 = .ok (.iconst 0, 1) := by decide +kernel
theorem dL_law_550 : decode cL_law 550 = .ok (.ireturn, 1) := by decide +kernel
theorem dL_law_551 : decode cL_law 551 = .ok (.aload_n 1, 1) := by decide +kernel
theorem dL_law_552 : decode cL_law 552 = .ok (.invokevirtual 77, 3) := by decide +kernel
theorem dL_law_555 : decode cL_law 555 = .ok (.aload_n 2, 1) := by decide +kernel
theorem dL_law_556 : decode cL_law 556 = .ok (.invokevirtual 81, 3) := by decide +kernel
theorem dL_law_559 : decode cL_law 559 = .ok (.if_icmp .eq 18, 3) := by decide +kernel
theorem dL_law_562 : decode cL_law 562 = .ok (.iconst 0, 1) := by decide +kernel
theorem dL_law_563 : decode cL_law 563 = .ok (.ireturn, 1) := by decide +kernel
theorem dL_law_564 : decode cL_law 564 = .ok (.aload_n 1, 1) := by decide +kernel
theorem dL_law_565 : decode cL_law 565 = .ok (.invokevirtual 82, 3) := by decide +kernel
theorem dL_law_568 : decode cL_law 568 = .ok (.aload_n 2, 1) := by decide +kernel
theorem dL_law_569 : decode cL_law 569 = .ok (.invokevirtual 85, 3) := by decide +kernel
theorem dL_law_572 : decode cL_law 572 = .ok (.if_icmp .eq 5, 3) := by decide +kernel
theorem dL_law_575 : decode cL_law 575 = .ok (.iconst 0, 1) := by decide +kernel
theorem dL_law_576 : decode cL_law 576 = .ok (.ireturn, 1) := by decide +kernel
theorem dL_law_577 : decode cL_law 577 = .ok (.iinc 3 4, 3) := by decide +kernel
theorem dL_law_580 : decode cL_law 580 = .ok (.goto (-552), 3) := by decide +kernel
theorem dL_law_583 : decode cL_law 583 = .ok (.iconst 1, 1) := by decide +kernel
theorem dL_law_584 : decode cL_law 584 = .ok (.ireturn, 1) := by decide +kernel
end
section
/-! rows of this claim: the world of a HiddenCaches (X1) as one picture, its instructions, its calls -/
set_option maxRecDepth 100000
abbrev vwCl : List vw_C := [(RX1, TX1, 11), (RX2, TX2, 2)]
abbrev rmF (n k : Nat) : Room := { frames := n, cells := 0, slots := 0, locals := k }
theorem hc_g {ls : Array Slot} {nL : Nat} {l : List (Nat × Value)} (h : lv_has ls nL l) {i : Nat} {v : Value} (hk : l.lookup i = some v) : ls[i]? = some (.val v) := by
  refine h.2.2 (i, v) ?_
  have key : ∀ l : List (Nat × Value), l.lookup i = some v → (i, v) ∈ l := by
    intro l
    induction l with
    | nil => intro h; cases h
    | cons a t ih =>
      intro h
      obtain ⟨a1, a2⟩ := a
      by_cases hq : i = a1
      · subst hq
        simp at h
        rw [h]
        exact List.mem_cons_self
      · have hb : (i == a1) = false := by simpa using hq
        simp only [List.lookup, hb] at h
        exact List.mem_cons_of_mem _ (ih h)
  exact key l hk
section RWS
variable {p : Program} {l : Launch} {e : Env} {R : Room} {s : State} {m : MethodId} {args : Array Value} {below : List Frame} {meth : Method} {c : Code} {H : Heap} {locs : List Loc} {cells slots : Nat} {Q : State → Prop}
variable {cc : ByteArray} {pc : Nat} {ls : Array Slot} {rest : List Value}
/-- the top of the stack by another name -/
theorem hc_re {x : Int32} (y : Int32) (h : x = y) (k : W p l e R s m args below meth c H locs cells slots Q (F0 m pc ls (.int y :: rest))) : W p l e R s m args below meth c H locs cells slots Q (F0 m pc ls (.int x :: rest)) := by
  subst h
  exact k
theorem hc_addN (hx : p.tables.exec = Jvm.exec) (hb : c.code = cc) {a b : Nat} (hdg : decode cc pc = .ok (.iadd, 1)) (k : W p l e R s m args below meth c H locs cells slots Q (F0 m (pc + 1) ls (.int (nI (a + b)) :: rest))) : W p l e R s m args below meth c H locs cells slots Q (F0 m pc ls (.int (nI b) :: .int (nI a) :: rest)) :=
  lv_iadd hx hb hdg (hc_re _ (nI_add a b) k)
theorem hc_mulN (hx : p.tables.exec = Jvm.exec) (hb : c.code = cc) {a b : Nat} (hdg : decode cc pc = .ok (.imul, 1)) (k : W p l e R s m args below meth c H locs cells slots Q (F0 m (pc + 1) ls (.int (nI (a * b)) :: rest))) : W p l e R s m args below meth c H locs cells slots Q (F0 m pc ls (.int (nI b) :: .int (nI a) :: rest)) :=
  lv_imul hx hb hdg (hc_re _ (pk_mul a b) k)
/-- a loop: its head is walked once, with the way back as a hypothesis -/
theorem hc_loop {S : Type} (I : Nat → S → Heap → List Loc → Array Slot → Prop) (n0 : Nat) {st : List Value}
    (step : ∀ (i : Nat) (x : S) (H : Heap) (locs : List Loc) (ls : Array Slot), i ≤ n0 → I i x H locs ls → (i < n0 → ∀ (x' : S) (H' : Heap) (locs' : List Loc) (ls' : Array Slot), I (i + 1) x' H' locs' ls' → W p l e R s m args below meth c H' locs' cells slots Q (F0 m pc ls' st)) → W p l e R s m args below meth c H locs cells slots Q (F0 m pc ls st)) :
    ∀ (i : Nat) (x : S) (H : Heap) (locs : List Loc) (ls : Array Slot), i ≤ n0 → I i x H locs ls → W p l e R s m args below meth c H locs cells slots Q (F0 m pc ls st) := by
  have key : ∀ (n i : Nat), n0 - i = n → ∀ (x : S) (H : Heap) (locs : List Loc) (ls : Array Slot), i ≤ n0 → I i x H locs ls → W p l e R s m args below meth c H locs cells slots Q (F0 m pc ls st) := by
    intro n
    induction n with
    | zero => intro i hn x H locs ls hi h; exact step i x H locs ls hi h (fun hlt => absurd hlt (by omega))
    | succ n ih => intro i hn x H locs ls hi h; exact step i x H locs ls hi h (fun hlt x' H' locs' ls' h' => ih (i + 1) (by omega) x' H' locs' ls' hlt h')
  intro i x H locs ls hi h
  exact key _ i rfl x H locs ls hi h
end RWS
/-! the picture: memory, lineIn, changed, words, reservation; used, clock and lastMiss may hold anything -/
abbrev xF (ad : Nat → Nat) (fs ss : Nat) (la clk lm rs : Int32) : List Value := [.ref (ad 1), .ref (ad 2), .ref (ad 3), .ref (ad 4), .ref (ad 5), .int clk, .int (nI fs), .int (nI ss), .int la, .int lm, .int rs]
abbrev xW (ad : Nat → Nat) (cA : Nat → ClassId) (fs ss : Nat) (la : Int32) (mem lin chg usd wrd : Nat → Int32) (clk lm rs : Int32) : va_W :=
  [(ad 0, .inr (0, xF ad fs ss la clk lm rs)), (ad 1, .inl (cA 1, 256, .inl mem)), (ad 2, .inl (cA 2, 26, .inl lin)), (ad 3, .inl (cA 3, 26, .inl chg)), (ad 4, .inl (cA 4, 26, .inl usd)), (ad 5, .inl (cA 5, 104, .inl wrd))]
abbrev xT (cA : Nat → ClassId) : List (ClassId × FieldType) := [(cA 1, .int), (cA 2, .int), (cA 3, .boolean), (cA 4, .int), (cA 5, .int)]
def xI (D : va_G) (A : Nat → Prop) (H0 : Heap) (ad : Nat → Nat) (cA : Nat → ClassId) (fs ss : Nat) (la : Int32) (mem lin chg wrd : Nat → Int32) (rs : Int32) (H : Heap) (locs : List Loc) : Prop :=
  ∃ (usd : Nat → Int32) (clk lm : Int32), va_P D vwCl (xW ad cA fs ss la mem lin chg usd wrd clk lm rs) H ∧ va_D A (xW ad cA fs ss la mem lin chg usd wrd clk lm rs) ∧ va_S A H0 H locs
def xC (p : Program) (s : State) (m : MethodId) (args : Array Value) (c : Code) (cc : ByteArray) (nL : Nat) (D : va_G) (cA : Nat → ClassId) (A : Nat → Prop) (H0 : Heap) : Prop :=
  CallFix p m c cc nL s args lw_all RX1 ∧ va_K D vwCl (xT cA) s ∧ ∀ q, H0.size ≤ q → A q
section RWX
variable {p : Program} {l : Launch} {e : Env} {R : Room} {s : State} {m : MethodId} {args : Array Value} {below : List Frame} {meth : Method} {c : Code} {H : Heap} {locs : List Loc} {cells slots : Nat} {Q : State → Prop}
variable {cc : ByteArray} {pc : Nat} {ls : Array Slot} {rest : List Value}
variable {nL : Nat} {D : va_G} {A : Nat → Prop} {H0 : Heap} {ad : Nat → Nat} {cA : Nat → ClassId} {fs ss : Nat} {la : Int32} {mem lin chg wrd : Nat → Int32} {rs : Int32}
theorem xg_mem (C : xC p s m args c cc nL D cA A H0) (I : xI D A H0 ad cA fs ss la mem lin chg wrd rs H locs) (hdg : decode cc pc = .ok (.getfield 7, 3)) (kk : W p l e R s m args below meth c H locs cells slots Q (F0 m (pc + 3) ls (.ref (ad 1) :: rest))) : W p l e R s m args below meth c H locs cells slots Q (F0 m pc ls (.ref (ad 0) :: rest)) := by
  obtain ⟨usd, clk, lm, hP, hD, hS⟩ := I
  exact va_get (D := D) (ci := 0) (v := .ref (ad 1)) (C := RX1) (T := TX1) (N := 11) C.1.1 C.1.2.1 C.1.2.2.2.2 in_X1 C.1.2.2.2.1 C.2.1 hP 0 rfl rfl 0 (by decide) (C.1.2.2.2.2 _ q35) (fun _ h9 => h9) rfl hdg kk
theorem xg_lin (C : xC p s m args c cc nL D cA A H0) (I : xI D A H0 ad cA fs ss la mem lin chg wrd rs H locs) (hdg : decode cc pc = .ok (.getfield 13, 3)) (kk : W p l e R s m args below meth c H locs cells slots Q (F0 m (pc + 3) ls (.ref (ad 2) :: rest))) : W p l e R s m args below meth c H locs cells slots Q (F0 m pc ls (.ref (ad 0) :: rest)) := by
  obtain ⟨usd, clk, lm, hP, hD, hS⟩ := I
  exact va_get (D := D) (ci := 0) (v := .ref (ad 2)) (C := RX1) (T := TX1) (N := 11) C.1.1 C.1.2.1 C.1.2.2.2.2 in_X1 C.1.2.2.2.1 C.2.1 hP 0 rfl rfl 1 (by decide) (C.1.2.2.2.2 _ q36) (fun _ h9 => h9) rfl hdg kk
theorem xg_chg (C : xC p s m args c cc nL D cA A H0) (I : xI D A H0 ad cA fs ss la mem lin chg wrd rs H locs) (hdg : decode cc pc = .ok (.getfield 16, 3)) (kk : W p l e R s m args below meth c H locs cells slots Q (F0 m (pc + 3) ls (.ref (ad 3) :: rest))) : W p l e R s m args below meth c H locs cells slots Q (F0 m pc ls (.ref (ad 0) :: rest)) := by
  obtain ⟨usd, clk, lm, hP, hD, hS⟩ := I
  exact va_get (D := D) (ci := 0) (v := .ref (ad 3)) (C := RX1) (T := TX1) (N := 11) C.1.1 C.1.2.1 C.1.2.2.2.2 in_X1 C.1.2.2.2.1 C.2.1 hP 0 rfl rfl 2 (by decide) (C.1.2.2.2.2 _ q37) (fun _ h9 => h9) rfl hdg kk
theorem xg_usd (C : xC p s m args c cc nL D cA A H0) (I : xI D A H0 ad cA fs ss la mem lin chg wrd rs H locs) (hdg : decode cc pc = .ok (.getfield 20, 3)) (kk : W p l e R s m args below meth c H locs cells slots Q (F0 m (pc + 3) ls (.ref (ad 4) :: rest))) : W p l e R s m args below meth c H locs cells slots Q (F0 m pc ls (.ref (ad 0) :: rest)) := by
  obtain ⟨usd, clk, lm, hP, hD, hS⟩ := I
  exact va_get (D := D) (ci := 0) (v := .ref (ad 4)) (C := RX1) (T := TX1) (N := 11) C.1.1 C.1.2.1 C.1.2.2.2.2 in_X1 C.1.2.2.2.1 C.2.1 hP 0 rfl rfl 3 (by decide) (C.1.2.2.2.2 _ q38) (fun _ h9 => h9) rfl hdg kk
theorem xg_wrd (C : xC p s m args c cc nL D cA A H0) (I : xI D A H0 ad cA fs ss la mem lin chg wrd rs H locs) (hdg : decode cc pc = .ok (.getfield 23, 3)) (kk : W p l e R s m args below meth c H locs cells slots Q (F0 m (pc + 3) ls (.ref (ad 5) :: rest))) : W p l e R s m args below meth c H locs cells slots Q (F0 m pc ls (.ref (ad 0) :: rest)) := by
  obtain ⟨usd, clk, lm, hP, hD, hS⟩ := I
  exact va_get (D := D) (ci := 0) (v := .ref (ad 5)) (C := RX1) (T := TX1) (N := 11) C.1.1 C.1.2.1 C.1.2.2.2.2 in_X1 C.1.2.2.2.1 C.2.1 hP 0 rfl rfl 4 (by decide) (C.1.2.2.2.2 _ q39) (fun _ h9 => h9) rfl hdg kk
theorem xg_clk (C : xC p s m args c cc nL D cA A H0) (I : xI D A H0 ad cA fs ss la mem lin chg wrd rs H locs) (hdg : decode cc pc = .ok (.getfield 43, 3)) (kk : ∀ v : Int32, W p l e R s m args below meth c H locs cells slots Q (F0 m (pc + 3) ls (.int v :: rest))) : W p l e R s m args below meth c H locs cells slots Q (F0 m pc ls (.ref (ad 0) :: rest)) := by
  obtain ⟨usd, clk, lm, hP, hD, hS⟩ := I
  exact va_get (D := D) (ci := 0) (v := .int clk) (C := RX1) (T := TX1) (N := 11) C.1.1 C.1.2.1 C.1.2.2.2.2 in_X1 C.1.2.2.2.1 C.2.1 hP 0 rfl rfl 5 (by decide) (C.1.2.2.2.2 _ q40) (fun _ h9 => h9) rfl hdg (kk clk)
theorem xg_fs (C : xC p s m args c cc nL D cA A H0) (I : xI D A H0 ad cA fs ss la mem lin chg wrd rs H locs) (hdg : decode cc pc = .ok (.getfield 26, 3)) (kk : W p l e R s m args below meth c H locs cells slots Q (F0 m (pc + 3) ls (.int (nI fs) :: rest))) : W p l e R s m args below meth c H locs cells slots Q (F0 m pc ls (.ref (ad 0) :: rest)) := by
  obtain ⟨usd, clk, lm, hP, hD, hS⟩ := I
  exact va_get (D := D) (ci := 0) (v := .int (nI fs)) (C := RX1) (T := TX1) (N := 11) C.1.1 C.1.2.1 C.1.2.2.2.2 in_X1 C.1.2.2.2.1 C.2.1 hP 0 rfl rfl 6 (by decide) (C.1.2.2.2.2 _ q41) (fun _ h9 => h9) rfl hdg kk
theorem xg_ss (C : xC p s m args c cc nL D cA A H0) (I : xI D A H0 ad cA fs ss la mem lin chg wrd rs H locs) (hdg : decode cc pc = .ok (.getfield 30, 3)) (kk : W p l e R s m args below meth c H locs cells slots Q (F0 m (pc + 3) ls (.int (nI ss) :: rest))) : W p l e R s m args below meth c H locs cells slots Q (F0 m pc ls (.ref (ad 0) :: rest)) := by
  obtain ⟨usd, clk, lm, hP, hD, hS⟩ := I
  exact va_get (D := D) (ci := 0) (v := .int (nI ss)) (C := RX1) (T := TX1) (N := 11) C.1.1 C.1.2.1 C.1.2.2.2.2 in_X1 C.1.2.2.2.1 C.2.1 hP 0 rfl rfl 7 (by decide) (C.1.2.2.2.2 _ q42) (fun _ h9 => h9) rfl hdg kk
theorem xg_la (C : xC p s m args c cc nL D cA A H0) (I : xI D A H0 ad cA fs ss la mem lin chg wrd rs H locs) (hdg : decode cc pc = .ok (.getfield 33, 3)) (kk : W p l e R s m args below meth c H locs cells slots Q (F0 m (pc + 3) ls (.int la :: rest))) : W p l e R s m args below meth c H locs cells slots Q (F0 m pc ls (.ref (ad 0) :: rest)) := by
  obtain ⟨usd, clk, lm, hP, hD, hS⟩ := I
  exact va_get (D := D) (ci := 0) (v := .int la) (C := RX1) (T := TX1) (N := 11) C.1.1 C.1.2.1 C.1.2.2.2.2 in_X1 C.1.2.2.2.1 C.2.1 hP 0 rfl rfl 8 (by decide) (C.1.2.2.2.2 _ q43) (fun _ h9 => h9) rfl hdg kk
theorem xg_lm (C : xC p s m args c cc nL D cA A H0) (I : xI D A H0 ad cA fs ss la mem lin chg wrd rs H locs) (hdg : decode cc pc = .ok (.getfield 37, 3)) (kk : ∀ v : Int32, W p l e R s m args below meth c H locs cells slots Q (F0 m (pc + 3) ls (.int v :: rest))) : W p l e R s m args below meth c H locs cells slots Q (F0 m pc ls (.ref (ad 0) :: rest)) := by
  obtain ⟨usd, clk, lm, hP, hD, hS⟩ := I
  exact va_get (D := D) (ci := 0) (v := .int lm) (C := RX1) (T := TX1) (N := 11) C.1.1 C.1.2.1 C.1.2.2.2.2 in_X1 C.1.2.2.2.1 C.2.1 hP 0 rfl rfl 9 (by decide) (C.1.2.2.2.2 _ q44) (fun _ h9 => h9) rfl hdg (kk lm)
theorem xg_rs (C : xC p s m args c cc nL D cA A H0) (I : xI D A H0 ad cA fs ss la mem lin chg wrd rs H locs) (hdg : decode cc pc = .ok (.getfield 40, 3)) (kk : W p l e R s m args below meth c H locs cells slots Q (F0 m (pc + 3) ls (.int rs :: rest))) : W p l e R s m args below meth c H locs cells slots Q (F0 m pc ls (.ref (ad 0) :: rest)) := by
  obtain ⟨usd, clk, lm, hP, hD, hS⟩ := I
  exact va_get (D := D) (ci := 0) (v := .int rs) (C := RX1) (T := TX1) (N := 11) C.1.1 C.1.2.1 C.1.2.2.2.2 in_X1 C.1.2.2.2.1 C.2.1 hP 0 rfl rfl 10 (by decide) (C.1.2.2.2.2 _ q45) (fun _ h9 => h9) rfl hdg kk
theorem xp_clk (C : xC p s m args c cc nL D cA A H0) (I : xI D A H0 ad cA fs ss la mem lin chg wrd rs H locs) {v : Int32} (hdg : decode cc pc = .ok (.putfield 43, 3)) (kk : ∀ (H1 : Heap) (locs1 : List Loc), xI D A H0 ad cA fs ss la mem lin chg wrd rs H1 locs1 → W p l e R s m args below meth c H1 locs1 cells slots Q (F0 m (pc + 3) ls rest)) : W p l e R s m args below meth c H locs cells slots Q (F0 m pc ls (.int v :: .ref (ad 0) :: rest)) := by
  obtain ⟨usd, clk, lm, hP, hD, hS⟩ := I
  exact va_put (D := D) (ci := 0) (v := .int v) (ty := .int) (C := RX1) (T := TX1) (N := 11) C.1.1 C.1.2.1 C.1.2.2.2.2 in_X1 tyX1 tyX1_ok nmX1 C.1.2.2.2.1 C.2.1 hP hD hS 0 rfl rfl 5 (by decide) (C.1.2.2.2.2 _ q40) (fun _ h9 => h9) rfl (by decide +kernel) rfl rfl (Nat.le_of_ble_eq_true rfl) hdg (fun H1 locs1 h1 h2 h3 => kk H1 locs1 ⟨usd, v, lm, h1, h2, h3⟩)
theorem xp_lm (C : xC p s m args c cc nL D cA A H0) (I : xI D A H0 ad cA fs ss la mem lin chg wrd rs H locs) {v : Int32} (hdg : decode cc pc = .ok (.putfield 37, 3)) (kk : ∀ (H1 : Heap) (locs1 : List Loc), xI D A H0 ad cA fs ss la mem lin chg wrd rs H1 locs1 → W p l e R s m args below meth c H1 locs1 cells slots Q (F0 m (pc + 3) ls rest)) : W p l e R s m args below meth c H locs cells slots Q (F0 m pc ls (.int v :: .ref (ad 0) :: rest)) := by
  obtain ⟨usd, clk, lm, hP, hD, hS⟩ := I
  exact va_put (D := D) (ci := 0) (v := .int v) (ty := .int) (C := RX1) (T := TX1) (N := 11) C.1.1 C.1.2.1 C.1.2.2.2.2 in_X1 tyX1 tyX1_ok nmX1 C.1.2.2.2.1 C.2.1 hP hD hS 0 rfl rfl 9 (by decide) (C.1.2.2.2.2 _ q44) (fun _ h9 => h9) rfl (by decide +kernel) rfl rfl (Nat.le_of_ble_eq_true rfl) hdg (fun H1 locs1 h1 h2 h3 => kk H1 locs1 ⟨usd, clk, v, h1, h2, h3⟩)
theorem xp_rs (C : xC p s m args c cc nL D cA A H0) (I : xI D A H0 ad cA fs ss la mem lin chg wrd rs H locs) {v : Int32} (hdg : decode cc pc = .ok (.putfield 40, 3)) (kk : ∀ (H1 : Heap) (locs1 : List Loc), xI D A H0 ad cA fs ss la mem lin chg wrd v H1 locs1 → W p l e R s m args below meth c H1 locs1 cells slots Q (F0 m (pc + 3) ls rest)) : W p l e R s m args below meth c H locs cells slots Q (F0 m pc ls (.int v :: .ref (ad 0) :: rest)) := by
  obtain ⟨usd, clk, lm, hP, hD, hS⟩ := I
  exact va_put (D := D) (ci := 0) (v := .int v) (ty := .int) (C := RX1) (T := TX1) (N := 11) C.1.1 C.1.2.1 C.1.2.2.2.2 in_X1 tyX1 tyX1_ok nmX1 C.1.2.2.2.1 C.2.1 hP hD hS 0 rfl rfl 10 (by decide) (C.1.2.2.2.2 _ q45) (fun _ h9 => h9) rfl (by decide +kernel) rfl rfl (Nat.le_of_ble_eq_true rfl) hdg (fun H1 locs1 h1 h2 h3 => kk H1 locs1 ⟨usd, clk, lm, h1, h2, h3⟩)
theorem xl_mem (C : xC p s m args c cc nL D cA A H0) (I : xI D A H0 ad cA fs ss la mem lin chg wrd rs H locs) {j : Nat} (hj : j < 256) (hdg : decode cc pc = .ok (.iaload, 1)) (kk : W p l e R s m args below meth c H locs cells slots Q (F0 m (pc + 1) ls (.int (mem j) :: rest))) : W p l e R s m args below meth c H locs cells slots Q (F0 m pc ls (.int (nI j) :: .ref (ad 1) :: rest)) := by
  obtain ⟨usd, clk, lm, hP, hD, hS⟩ := I
  refine va_iald C.1.1 C.1.2.1 C.2.1 hP 1 0 rfl rfl (vp_in_nI hj (by omega)) hdg ?_
  rw [nI_clamp (by omega)]
  exact kk
theorem xl_lin (C : xC p s m args c cc nL D cA A H0) (I : xI D A H0 ad cA fs ss la mem lin chg wrd rs H locs) {j : Nat} (hj : j < 26) (hdg : decode cc pc = .ok (.iaload, 1)) (kk : W p l e R s m args below meth c H locs cells slots Q (F0 m (pc + 1) ls (.int (lin j) :: rest))) : W p l e R s m args below meth c H locs cells slots Q (F0 m pc ls (.int (nI j) :: .ref (ad 2) :: rest)) := by
  obtain ⟨usd, clk, lm, hP, hD, hS⟩ := I
  refine va_iald C.1.1 C.1.2.1 C.2.1 hP 2 1 rfl rfl (vp_in_nI hj (by omega)) hdg ?_
  rw [nI_clamp (by omega)]
  exact kk
theorem xl_chg (C : xC p s m args c cc nL D cA A H0) (I : xI D A H0 ad cA fs ss la mem lin chg wrd rs H locs) {j : Nat} (hj : j < 26) (hdg : decode cc pc = .ok (.baload, 1)) (kk : W p l e R s m args below meth c H locs cells slots Q (F0 m (pc + 1) ls (.int (chg j) :: rest))) : W p l e R s m args below meth c H locs cells slots Q (F0 m pc ls (.int (nI j) :: .ref (ad 3) :: rest)) := by
  obtain ⟨usd, clk, lm, hP, hD, hS⟩ := I
  refine va_zald C.1.1 C.1.2.1 C.2.1 hP 3 2 rfl rfl (vp_in_nI hj (by omega)) hdg ?_
  rw [nI_clamp (by omega)]
  exact kk
theorem xl_usd (C : xC p s m args c cc nL D cA A H0) (I : xI D A H0 ad cA fs ss la mem lin chg wrd rs H locs) {j : Nat} (hj : j < 26) (hdg : decode cc pc = .ok (.iaload, 1)) (kk : ∀ v : Int32, W p l e R s m args below meth c H locs cells slots Q (F0 m (pc + 1) ls (.int v :: rest))) : W p l e R s m args below meth c H locs cells slots Q (F0 m pc ls (.int (nI j) :: .ref (ad 4) :: rest)) := by
  obtain ⟨usd, clk, lm, hP, hD, hS⟩ := I
  exact va_iald C.1.1 C.1.2.1 C.2.1 hP 4 3 rfl rfl (vp_in_nI hj (by omega)) hdg (kk _)
theorem xl_wrd (C : xC p s m args c cc nL D cA A H0) (I : xI D A H0 ad cA fs ss la mem lin chg wrd rs H locs) {j : Nat} (hj : j < 104) (hdg : decode cc pc = .ok (.iaload, 1)) (kk : W p l e R s m args below meth c H locs cells slots Q (F0 m (pc + 1) ls (.int (wrd j) :: rest))) : W p l e R s m args below meth c H locs cells slots Q (F0 m pc ls (.int (nI j) :: .ref (ad 5) :: rest)) := by
  obtain ⟨usd, clk, lm, hP, hD, hS⟩ := I
  refine va_iald C.1.1 C.1.2.1 C.2.1 hP 5 4 rfl rfl (vp_in_nI hj (by omega)) hdg ?_
  rw [nI_clamp (by omega)]
  exact kk
theorem xs_mem (C : xC p s m args c cc nL D cA A H0) (I : xI D A H0 ad cA fs ss la mem lin chg wrd rs H locs) {j : Nat} {x : Int32} (hj : j < 256) (hdg : decode cc pc = .ok (.iastore, 1)) (kk : ∀ (H1 : Heap) (locs1 : List Loc), xI D A H0 ad cA fs ss la (upd mem j x) lin chg wrd rs H1 locs1 → W p l e R s m args below meth c H1 locs1 cells slots Q (F0 m (pc + 1) ls rest)) : W p l e R s m args below meth c H locs cells slots Q (F0 m pc ls (.int x :: .int (nI j) :: .ref (ad 1) :: rest)) := by
  obtain ⟨usd, clk, lm, hP, hD, hS⟩ := I
  refine va_iast C.1.1 C.1.2.1 C.2.1 hP hD hS 1 0 rfl rfl (vp_in_nI hj (by omega)) hdg (fun H1 locs1 h1 h2 h3 => kk H1 locs1 ⟨usd, clk, lm, ?_, ?_, h3⟩)
  · rw [nI_clamp (by omega)] at h1; exact h1
  · rw [nI_clamp (by omega)] at h2; exact h2
theorem xs_lin (C : xC p s m args c cc nL D cA A H0) (I : xI D A H0 ad cA fs ss la mem lin chg wrd rs H locs) {j : Nat} {x : Int32} (hj : j < 26) (hdg : decode cc pc = .ok (.iastore, 1)) (kk : ∀ (H1 : Heap) (locs1 : List Loc), xI D A H0 ad cA fs ss la mem (upd lin j x) chg wrd rs H1 locs1 → W p l e R s m args below meth c H1 locs1 cells slots Q (F0 m (pc + 1) ls rest)) : W p l e R s m args below meth c H locs cells slots Q (F0 m pc ls (.int x :: .int (nI j) :: .ref (ad 2) :: rest)) := by
  obtain ⟨usd, clk, lm, hP, hD, hS⟩ := I
  refine va_iast C.1.1 C.1.2.1 C.2.1 hP hD hS 2 1 rfl rfl (vp_in_nI hj (by omega)) hdg (fun H1 locs1 h1 h2 h3 => kk H1 locs1 ⟨usd, clk, lm, ?_, ?_, h3⟩)
  · rw [nI_clamp (by omega)] at h1; exact h1
  · rw [nI_clamp (by omega)] at h2; exact h2
theorem xs_wrd (C : xC p s m args c cc nL D cA A H0) (I : xI D A H0 ad cA fs ss la mem lin chg wrd rs H locs) {j : Nat} {x : Int32} (hj : j < 104) (hdg : decode cc pc = .ok (.iastore, 1)) (kk : ∀ (H1 : Heap) (locs1 : List Loc), xI D A H0 ad cA fs ss la mem lin chg (upd wrd j x) rs H1 locs1 → W p l e R s m args below meth c H1 locs1 cells slots Q (F0 m (pc + 1) ls rest)) : W p l e R s m args below meth c H locs cells slots Q (F0 m pc ls (.int x :: .int (nI j) :: .ref (ad 5) :: rest)) := by
  obtain ⟨usd, clk, lm, hP, hD, hS⟩ := I
  refine va_iast C.1.1 C.1.2.1 C.2.1 hP hD hS 5 4 rfl rfl (vp_in_nI hj (by omega)) hdg (fun H1 locs1 h1 h2 h3 => kk H1 locs1 ⟨usd, clk, lm, ?_, ?_, h3⟩)
  · rw [nI_clamp (by omega)] at h1; exact h1
  · rw [nI_clamp (by omega)] at h2; exact h2
theorem xs_usd (C : xC p s m args c cc nL D cA A H0) (I : xI D A H0 ad cA fs ss la mem lin chg wrd rs H locs) {j : Nat} {x : Int32} (hj : j < 26) (hdg : decode cc pc = .ok (.iastore, 1)) (kk : ∀ (H1 : Heap) (locs1 : List Loc), xI D A H0 ad cA fs ss la mem lin chg wrd rs H1 locs1 → W p l e R s m args below meth c H1 locs1 cells slots Q (F0 m (pc + 1) ls rest)) : W p l e R s m args below meth c H locs cells slots Q (F0 m pc ls (.int x :: .int (nI j) :: .ref (ad 4) :: rest)) := by
  obtain ⟨usd, clk, lm, hP, hD, hS⟩ := I
  exact va_iast C.1.1 C.1.2.1 C.2.1 hP hD hS 4 3 rfl rfl (vp_in_nI hj (by omega)) hdg (fun H1 locs1 h1 h2 h3 => kk H1 locs1 ⟨_, clk, lm, h1, h2, h3⟩)
theorem hc_nar {x : Int32} (h : x = 0 ∨ x = 1) : vp_nar .boolean x = x := by
  rcases h with h | h <;> subst h <;> decide
theorem xs_chg (C : xC p s m args c cc nL D cA A H0) (I : xI D A H0 ad cA fs ss la mem lin chg wrd rs H locs) {j : Nat} {x : Int32} (hj : j < 26) (h01 : x = 0 ∨ x = 1) (hdg : decode cc pc = .ok (.bastore, 1)) (kk : ∀ (H1 : Heap) (locs1 : List Loc), xI D A H0 ad cA fs ss la mem lin (upd chg j x) wrd rs H1 locs1 → W p l e R s m args below meth c H1 locs1 cells slots Q (F0 m (pc + 1) ls rest)) : W p l e R s m args below meth c H locs cells slots Q (F0 m pc ls (.int x :: .int (nI j) :: .ref (ad 3) :: rest)) := by
  obtain ⟨usd, clk, lm, hP, hD, hS⟩ := I
  refine va_zast C.1.1 C.1.2.1 C.2.1 hP hD hS 3 2 rfl rfl (vp_in_nI hj (by omega)) hdg (fun H1 locs1 h1 h2 h3 => kk H1 locs1 ⟨usd, clk, lm, ?_, ?_, h3⟩)
  · rw [nI_clamp (by omega), hc_nar h01] at h1; exact h1
  · rw [nI_clamp (by omega), hc_nar h01] at h2; exact h2
end RWX
/-! contracts over the picture -/
abbrev xS : Type := (Nat → Int32) × (Nat → Int32) × (Nat → Int32) × (Nat → Int32) × Int32
def xA (ad : Nat → Nat) (sz : Nat) : Nat → Prop := fun q => (∃ k, k < 6 ∧ q = ad k) ∨ sz ≤ q
def xPre (D : va_G) (ad : Nat → Nat) (cA : Nat → ClassId) (fs ss : Nat) (la : Int32) (mem lin chg wrd : Nat → Int32) (rs : Int32) (sz : Nat) (U : State) : Prop :=
  U.heap.size = sz ∧ ∃ (usd : Nat → Int32) (clk lm : Int32), va_P D vwCl (xW ad cA fs ss la mem lin chg usd wrd clk lm rs) U.heap ∧ va_K D vwCl (xT cA) U ∧ va_D (fun _ => True) (xW ad cA fs ss la mem lin chg usd wrd clk lm rs)
def xB (D : va_G) (ad : Nat → Nat) (cA : Nat → ClassId) (fs ss : Nat) (la : Int32) (sz : Nat) (u : xS) (t : State) : Prop :=
  ∃ (usd : Nat → Int32) (clk lm : Int32), va_P D vwCl (xW ad cA fs ss la u.1 u.2.1 u.2.2.1 usd u.2.2.2.1 clk lm u.2.2.2.2) t.heap ∧ va_K D vwCl (xT cA) t ∧ va_D (xA ad sz) (xW ad cA fs ss la u.1 u.2.1 u.2.2.1 usd u.2.2.2.1 clk lm u.2.2.2.2)
abbrev xPo : Type := (Nat → Int32) → (Nat → Int32) → (Nat → Int32) → (Nat → Int32) → Int32 → Prop
/-- a method that answers an int (or a truth value) -/
def xMi (l : Launch) (y : MethodName) (b : ByteArray) (L : Nat) (rt : FieldType) (rm : Room) (D : va_G) (ad : Nat → Nat) (cA : Nat → ClassId) (fs ss : Nat) (la : Int32) (mem lin chg wrd : Nat → Int32) (rs : Int32) (As : List Value) (post : Int32 → xPo) : Prop :=
  ∀ sz, Met l y (ws_ y b L (some rt)) rm (va_Pc As (xPre D ad cA fs ss la mem lin chg wrd rs sz)) (va_Qi (fun r u => post r u.1 u.2.1 u.2.2.1 u.2.2.2.1 u.2.2.2.2) (xB D ad cA fs ss la sz) (xA ad sz)) 0 0 (xA ad sz)
def xMv (l : Launch) (y : MethodName) (b : ByteArray) (L : Nat) (rm : Room) (D : va_G) (ad : Nat → Nat) (cA : Nat → ClassId) (fs ss : Nat) (la : Int32) (mem lin chg wrd : Nat → Int32) (rs : Int32) (As : List Value) (post : xPo) : Prop :=
  ∀ sz, Met l y (ws_ y b L none) rm (va_Pc As (xPre D ad cA fs ss la mem lin chg wrd rs sz)) (va_Qv (fun u => post u.1 u.2.1 u.2.2.1 u.2.2.2.1 u.2.2.2.2) (xB D ad cA fs ss la sz) (xA ad sz)) 0 0 (xA ad sz)
/-- a method that changes nothing of the picture -/
abbrev xKeep (mem lin chg wrd : Nat → Int32) (rs : Int32) (P : Int32 → Prop) : Int32 → xPo := fun r a b c d f => P r ∧ a = mem ∧ b = lin ∧ c = chg ∧ d = wrd ∧ f = rs
theorem xA_self {ad : Nat → Nat} {sz : Nat} {A : Nat → Prop} {cA : Nat → ClassId} {fs ss : Nat} {la : Int32} {mem lin chg usd wrd : Nat → Int32} {clk lm rs : Int32} (h : va_D A (xW ad cA fs ss la mem lin chg usd wrd clk lm rs)) : va_D (xA ad sz) (xW ad cA fs ss la mem lin chg usd wrd clk lm rs) := by
  refine ⟨h.1, fun k q hk => ?_⟩
  match k, hk with
  | 0, hk => cases hk; exact Or.inl ⟨0, by decide, rfl⟩
  | 1, hk => cases hk; exact Or.inl ⟨1, by decide, rfl⟩
  | 2, hk => cases hk; exact Or.inl ⟨2, by decide, rfl⟩
  | 3, hk => cases hk; exact Or.inl ⟨3, by decide, rfl⟩
  | 4, hk => cases hk; exact Or.inl ⟨4, by decide, rfl⟩
  | 5, hk => cases hk; exact Or.inl ⟨5, by decide, rfl⟩
  | k + 6, hk => simp at hk
theorem xA_free {ad : Nat → Nat} {sz : Nat} {A : Nat → Prop} {cA : Nat → ClassId} {fs ss : Nat} {la : Int32} {mem lin chg usd wrd : Nat → Int32} {clk lm rs : Int32} (h : va_D A (xW ad cA fs ss la mem lin chg usd wrd clk lm rs)) (hA : ∀ q, sz ≤ q → A q) : ∀ q, xA ad sz q → A q := by
  intro q hq
  rcases hq with ⟨k, hk, rfl⟩ | hq
  · match k, hk with
    | 0, _ => exact h.2 0 _ rfl
    | 1, _ => exact h.2 1 _ rfl
    | 2, _ => exact h.2 2 _ rfl
    | 3, _ => exact h.2 3 _ rfl
    | 4, _ => exact h.2 4 _ rfl
    | 5, _ => exact h.2 5 _ rfl
    | k + 6, hk => omega
  · exact hA q hq
theorem xPre_blind {D : va_G} {ad : Nat → Nat} {cA : Nat → ClassId} {fs ss : Nat} {la : Int32} {mem lin chg wrd : Nat → Int32} {rs : Int32} {sz : Nat} {As : List Value} : FrameBlind (va_Pc As (xPre D ad cA fs ss la mem lin chg wrd rs sz)) := by
  intro a U g mk q
  obtain ⟨q0, q1, usd, clk, lm, qP, qK, qD⟩ := q
  exact ⟨q0, q1, usd, clk, lm, qP, va_K.moved (u := U) (U := U.calling g mk a) (Vm.Alike.refl U.vm) qK, qD⟩
section MET
variable {l : Launch} {y : MethodName} {b : ByteArray} {L : Nat} {rt : FieldType} {rm : Room} {D : va_G} {ad : Nat → Nat} {cA : Nat → ClassId} {fs ss : Nat} {la : Int32} {mem lin chg wrd : Nat → Int32} {rs : Int32} {As : List Value}
theorem xMi_of {post : Int32 → xPo} (hy : y.cls = RX1) (hpl : plainName y.cls = true) (hL : (lg_sl As).length ≤ L) (hn : ∀ r x1 x2 x3 x4 x5, post r x1 x2 x3 x4 x5 → narrow rt (.int r) = .int r)
    (body : ∀ (p : Program) (e : Env) (s : State) (m : MethodId) (args : Array Value) (below : List Frame) (meth : Method) (c : Code) (Q : State → Prop) (A : Nat → Prop) (H : Heap) (ls : Array Slot), xC p s m args c b L D cA A H → xI D A H ad cA fs ss la mem lin chg wrd rs H [] → lv_has ls L (lv_args 0 As) →
      (∀ (r : Int32) (mem' lin' chg' wrd' : Nat → Int32) (rs' : Int32) (H' : Heap) (locs : List Loc) (pc : Nat) (ls : Array Slot), post r mem' lin' chg' wrd' rs' → xI D A H ad cA fs ss la mem' lin' chg' wrd' rs' H' locs → decode b pc = .ok (.ireturn, 1) → W p l e rm s m args below meth c H' locs 0 0 Q (F0 m pc ls [.int r])) →
      W p l e rm s m args below meth c H [] 0 0 Q (F0 m 0 ls [])) : xMi l y b L rt rm D ad cA fs ss la mem lin chg wrd rs As post := by
  intro sz
  refine Met.ofW (cc := b) (maxL := L) (ret := some rt) hpl rfl ?_
  intro p e s m args below meth c s₁ B hml hv
  obtain ⟨rfl, hsz, usd, clk, lm, hP, hK, hD0⟩ := hv
  have hts := atoms_spec (ws := ws_ y b L (some rt)) B.pre
  have hts : ∀ w ∈ lw_all, w.before _ s = true := fun w h => hts w (List.mem_cons_of_mem _ h)
  have hown : s.vm.findClass RX1 = some m.cls := by rw [← hy]; exact findClass_of_methodNamed B.named
  have hlocks := B.notSynchronized
  subst hsz
  have hl := lv_entry As (n := L) hL
  rw [lg_entry_eq]
  refine body p e s m _ below meth c _ (xA ad s.heap.size) s.heap _ ⟨⟨B.exec, B.bytes, hml, hown, hts⟩, hK, fun q h => Or.inr h⟩ ⟨usd, clk, lm, hP, xA_self hD0, va_S.rf⟩ hl ?_
  intro r mem' lin' chg' wrd' rs' H' locs pc ls hp I hdg
  obtain ⟨usd', clk', lm', hP', hD', hS'⟩ := I
  exact W.zret (v := r) B.exec B.bytes B.returns (hn _ _ _ _ _ _ hp) (fun t ht hW => ⟨⟨r, (mem', lin', chg', wrd', rs'), rfl, hp, usd', clk', lm', by rw [ht]; exact hP', va_K.moved hW.alike hK, hD'⟩, hS'.F ht⟩) hS'.2.2 hdg
theorem xMv_of {post : xPo} (hy : y.cls = RX1) (hpl : plainName y.cls = true) (hL : (lg_sl As).length ≤ L)
    (body : ∀ (p : Program) (e : Env) (s : State) (m : MethodId) (args : Array Value) (below : List Frame) (meth : Method) (c : Code) (Q : State → Prop) (A : Nat → Prop) (H : Heap) (ls : Array Slot), xC p s m args c b L D cA A H → xI D A H ad cA fs ss la mem lin chg wrd rs H [] → lv_has ls L (lv_args 0 As) →
      (∀ (mem' lin' chg' wrd' : Nat → Int32) (rs' : Int32) (H' : Heap) (locs : List Loc) (pc : Nat) (ls : Array Slot), post mem' lin' chg' wrd' rs' → xI D A H ad cA fs ss la mem' lin' chg' wrd' rs' H' locs → decode b pc = .ok (.return_, 1) → W p l e rm s m args below meth c H' locs 0 0 Q (F0 m pc ls [])) →
      W p l e rm s m args below meth c H [] 0 0 Q (F0 m 0 ls [])) : xMv l y b L rm D ad cA fs ss la mem lin chg wrd rs As post := by
  intro sz
  refine Met.ofW (cc := b) (maxL := L) (ret := none) hpl rfl ?_
  intro p e s m args below meth c s₁ B hml hv
  obtain ⟨rfl, hsz, usd, clk, lm, hP, hK, hD0⟩ := hv
  have hts := atoms_spec (ws := ws_ y b L none) B.pre
  have hts : ∀ w ∈ lw_all, w.before _ s = true := fun w h => hts w (List.mem_cons_of_mem _ h)
  have hown : s.vm.findClass RX1 = some m.cls := by rw [← hy]; exact findClass_of_methodNamed B.named
  have hlocks := B.notSynchronized
  subst hsz
  have hl := lv_entry As (n := L) hL
  rw [lg_entry_eq]
  refine body p e s m _ below meth c _ (xA ad s.heap.size) s.heap _ ⟨⟨B.exec, B.bytes, hml, hown, hts⟩, hK, fun q h => Or.inr h⟩ ⟨usd, clk, lm, hP, xA_self hD0, va_S.rf⟩ hl ?_
  intro mem' lin' chg' wrd' rs' H' locs pc ls hp I hdg
  obtain ⟨usd', clk', lm', hP', hD', hS'⟩ := I
  exact W.vret B.exec B.bytes B.returns (fun t ht hW => ⟨⟨(mem', lin', chg', wrd', rs'), rfl, hp, usd', clk', lm', by rw [ht]; exact hP', va_K.moved hW.alike hK, hD'⟩, hS'.F ht⟩) hS'.2.2 hdg
end MET
section CALLX
variable {p : Program} {l : Launch} {e : Env} {R : Room} {s : State} {m : MethodId} {args : Array Value} {below : List Frame} {meth : Method} {c : Code} {H : Heap} {locs : List Loc} {Q : State → Prop}
variable {cc : ByteArray} {pc : Nat} {ls : Array Slot} {rest : List Value}
variable {nL : Nat} {D : va_G} {A : Nat → Prop} {H0 : Heap} {ad : Nat → Nat} {cA : Nat → ClassId} {fs ss : Nat} {la : Int32} {mem lin chg wrd : Nat → Int32} {rs : Int32}
variable {y : MethodName} {b : ByteArray} {Ly n index : Nat} {rt : FieldType} {rm : Room} {st0 : List Value}
/-- a call of one of the object's own methods, by its contract -/
theorem x_calli (As : List Value) {post : Int32 → xPo} (C : xC p s m args c cc nL D cA A H0) (I : xI D A H0 ad cA fs ss la mem lin chg wrd rs H locs) (hl : ls.size = nL) (hM : xMi l y b Ly rt rm D ad cA fs ss la mem lin chg wrd rs (.ref (ad 0) :: As) post) (cw : CallW R s args RX1 RX1 index y b Ly (some rt) (ws_ y b Ly (some rt)) rm 0 0 n) (hn : As.length = n) (hst : st0 = As.reverse ++ .ref (ad 0) :: rest) (hrm : (rest.map fun v => v.category).sum ≤ 8) (hdg : decode cc pc = .ok (.invokevirtual index, 3))
    (kk : ∀ (r : Int32) (mem' lin' chg' wrd' : Nat → Int32) (rs' : Int32) (H' : Heap) (locs' : List Loc), post r mem' lin' chg' wrd' rs' → xI D A H0 ad cA fs ss la mem' lin' chg' wrd' rs' H' locs' → W p l e R s m args below meth c H' locs' 0 0 Q (F0 m (pc + 3) ls (.int r :: rest))) : W p l e R s m args below meth c H locs 0 0 Q (F0 m pc ls st0) := by
  subst hst
  obtain ⟨usd, clk, lm, hP, hD, hS⟩ := I
  have hF := xA_free (sz := H.size) hD (fun q h => C.2.2 q (Nat.le_trans hS.1 h))
  refine va_calli (va_runV (As := As) (rest := rest) C.1 (hM H.size) cw ⟨xPre_blind, va_recv C.2.1 hP (ci := 0) (q0 := 0) rfl rfl, fun U hU hW => ⟨rfl, by rw [hU], usd, clk, lm, by rw [hU]; exact hP, va_K.moved hW.alike C.2.1, hD.weaken (fun _ _ _ _ => trivial)⟩⟩ rfl hn hl rfl (lv_room hrm) hdg ⟨Nat.zero_le _, Nat.zero_le _⟩) hS (fun q _ h => hF q h) hF (fun r u t H1 locs1 ht hvm hp hB hz hk hS1 => ?_)
  obtain ⟨usd', clk', lm', hP', hK', hD'⟩ := hB
  rw [ht] at hP'
  exact kk r u.1 u.2.1 u.2.2.1 u.2.2.2.1 u.2.2.2.2 H1 locs1 hp ⟨usd', clk', lm', hP', hD'.weaken (fun _ _ _ h => hF _ h), hS1⟩
theorem x_callv (As : List Value) {post : xPo} (C : xC p s m args c cc nL D cA A H0) (I : xI D A H0 ad cA fs ss la mem lin chg wrd rs H locs) (hl : ls.size = nL) (hM : xMv l y b Ly rm D ad cA fs ss la mem lin chg wrd rs (.ref (ad 0) :: As) post) (cw : CallW R s args RX1 RX1 index y b Ly none (ws_ y b Ly none) rm 0 0 n) (hn : As.length = n) (hst : st0 = As.reverse ++ .ref (ad 0) :: rest) (hrm : (rest.map fun v => v.category).sum ≤ 8) (hdg : decode cc pc = .ok (.invokevirtual index, 3))
    (kk : ∀ (mem' lin' chg' wrd' : Nat → Int32) (rs' : Int32) (H' : Heap) (locs' : List Loc), post mem' lin' chg' wrd' rs' → xI D A H0 ad cA fs ss la mem' lin' chg' wrd' rs' H' locs' → W p l e R s m args below meth c H' locs' 0 0 Q (F0 m (pc + 3) ls rest)) : W p l e R s m args below meth c H locs 0 0 Q (F0 m pc ls st0) := by
  subst hst
  obtain ⟨usd, clk, lm, hP, hD, hS⟩ := I
  have hF := xA_free (sz := H.size) hD (fun q h => C.2.2 q (Nat.le_trans hS.1 h))
  refine va_callv (va_runV (As := As) (rest := rest) C.1 (hM H.size) cw ⟨xPre_blind, va_recv C.2.1 hP (ci := 0) (q0 := 0) rfl rfl, fun U hU hW => ⟨rfl, by rw [hU], usd, clk, lm, by rw [hU]; exact hP, va_K.moved hW.alike C.2.1, hD.weaken (fun _ _ _ _ => trivial)⟩⟩ rfl hn hl rfl (lv_room hrm) hdg ⟨Nat.zero_le _, Nat.zero_le _⟩) hS (fun q _ h => hF q h) hF (fun u t H1 locs1 ht hvm hp hB hz hk hS1 => ?_)
  obtain ⟨usd', clk', lm', hP', hK', hD'⟩ := hB
  rw [ht] at hP'
  exact kk u.1 u.2.1 u.2.2.1 u.2.2.2.1 u.2.2.2.2 H1 locs1 hp ⟨usd', clk', lm', hP', hD'.weaken (fun _ _ _ h => hF _ h), hS1⟩
/-- a call of the static one -/
theorem x_calls (As : List Value) {post : Int32 → xPo} (C : xC p s m args c cc nL D cA A H0) (I : xI D A H0 ad cA fs ss la mem lin chg wrd rs H locs) (hl : ls.size = nL) (hM : xMi l y b Ly rt rm D ad cA fs ss la mem lin chg wrd rs As post) (cw : CallB R s args RX1 index y b Ly (some rt) (ws_ y b Ly (some rt)) rm 0 0 n ∧ (Cond.static y).before args s = true) (hn : As.length = n) (hst : st0 = As.reverse ++ rest) (hrm : (rest.map fun v => v.category).sum ≤ 8) (hdg : decode cc pc = .ok (.invokestatic index, 3))
    (kk : ∀ (r : Int32) (mem' lin' chg' wrd' : Nat → Int32) (rs' : Int32) (H' : Heap) (locs' : List Loc), post r mem' lin' chg' wrd' rs' → xI D A H0 ad cA fs ss la mem' lin' chg' wrd' rs' H' locs' → W p l e R s m args below meth c H' locs' 0 0 Q (F0 m (pc + 3) ls (.int r :: rest))) : W p l e R s m args below meth c H locs 0 0 Q (F0 m pc ls st0) := by
  subst hst
  obtain ⟨usd, clk, lm, hP, hD, hS⟩ := I
  have hF := xA_free (sz := H.size) hD (fun q h => C.2.2 q (Nat.le_trans hS.1 h))
  refine va_calli (va_runS (As := As) (rest := rest) C.1 (hM H.size) cw ⟨xPre_blind, fun U hU hW => ⟨rfl, by rw [hU], usd, clk, lm, by rw [hU]; exact hP, va_K.moved hW.alike C.2.1, hD.weaken (fun _ _ _ _ => trivial)⟩⟩ rfl hn hl rfl (lv_room hrm) hdg ⟨Nat.zero_le _, Nat.zero_le _⟩) hS (fun q _ h => hF q h) hF (fun r u t H1 locs1 ht hvm hp hB hz hk hS1 => ?_)
  obtain ⟨usd', clk', lm', hP', hK', hD'⟩ := hB
  rw [ht] at hP'
  exact kk r u.1 u.2.1 u.2.2.1 u.2.2.2.1 u.2.2.2.2 H1 locs1 hp ⟨usd', clk', lm', hP', hD'.weaken (fun _ _ _ h => hF _ h), hS1⟩
/-- a call that changes nothing of the picture -/
theorem x_callr (As : List Value) {P : Int32 → Prop} (C : xC p s m args c cc nL D cA A H0) (I : xI D A H0 ad cA fs ss la mem lin chg wrd rs H locs) (hl : ls.size = nL) (hM : xMi l y b Ly rt rm D ad cA fs ss la mem lin chg wrd rs (.ref (ad 0) :: As) (xKeep mem lin chg wrd rs P)) (cw : CallW R s args RX1 RX1 index y b Ly (some rt) (ws_ y b Ly (some rt)) rm 0 0 n) (hn : As.length = n) (hst : st0 = As.reverse ++ .ref (ad 0) :: rest) (hrm : (rest.map fun v => v.category).sum ≤ 8) (hdg : decode cc pc = .ok (.invokevirtual index, 3))
    (kk : ∀ (r : Int32) (H' : Heap) (locs' : List Loc), P r → xI D A H0 ad cA fs ss la mem lin chg wrd rs H' locs' → W p l e R s m args below meth c H' locs' 0 0 Q (F0 m (pc + 3) ls (.int r :: rest))) : W p l e R s m args below meth c H locs 0 0 Q (F0 m pc ls st0) := by
  refine x_calli As C I hl hM cw hn hst hrm hdg (fun r mem' lin' chg' wrd' rs' H' locs' hp I' => ?_)
  obtain ⟨hp, rfl, rfl, rfl, rfl, rfl⟩ := hp
  exact kk r H' locs' hp I'
theorem x_callsr (As : List Value) {P : Int32 → Prop} (C : xC p s m args c cc nL D cA A H0) (I : xI D A H0 ad cA fs ss la mem lin chg wrd rs H locs) (hl : ls.size = nL) (hM : xMi l y b Ly rt rm D ad cA fs ss la mem lin chg wrd rs As (xKeep mem lin chg wrd rs P)) (cw : CallB R s args RX1 index y b Ly (some rt) (ws_ y b Ly (some rt)) rm 0 0 n ∧ (Cond.static y).before args s = true) (hn : As.length = n) (hst : st0 = As.reverse ++ rest) (hrm : (rest.map fun v => v.category).sum ≤ 8) (hdg : decode cc pc = .ok (.invokestatic index, 3))
    (kk : ∀ (r : Int32) (H' : Heap) (locs' : List Loc), P r → xI D A H0 ad cA fs ss la mem lin chg wrd rs H' locs' → W p l e R s m args below meth c H' locs' 0 0 Q (F0 m (pc + 3) ls (.int r :: rest))) : W p l e R s m args below meth c H locs 0 0 Q (F0 m pc ls st0) := by
  refine x_calls As C I hl hM cw hn hst hrm hdg (fun r mem' lin' chg' wrd' rs' H' locs' hp I' => ?_)
  obtain ⟨hp, rfl, rfl, rfl, rfl, rfl⟩ := hp
  exact kk r H' locs' hp I'
end CALLX
end
section
/-! the plain law of the caches: M is what the words hold, hInv says how the places and the memory hold it -/
set_option maxRecDepth 100000
def hf1 (s L : Nat) : Nat := 2 * (L / 2 ^ s % 4)
def hf2 (s L : Nat) : Nat := 10 + 2 * (L / 2 ^ s % 8)
def hOk (fs ss p L : Nat) : Prop := p = hf1 fs L ∨ p = hf1 fs L + 1 ∨ p = 8 ∨ p = 9 ∨ p = hf2 ss L ∨ p = hf2 ss L + 1
def hInv (fs ss : Nat) (M mem lin chg wrd : Nat → Int32) : Prop :=
  (∀ p, p < 26 → lin p = -1 ∨ ∃ L, L < 64 ∧ lin p = nI L ∧ hOk fs ss p L ∧ ∀ i, i < 4 → wrd (p * 4 + i) = M (L * 4 + i)) ∧
  (∀ p q L, p < 26 → q < 26 → L < 64 → lin p = nI L → lin q = nI L → p = q) ∧
  (∀ L i, L < 64 → i < 4 → (∀ p, p < 26 → lin p = nI L → chg p = 0) → mem (L * 4 + i) = M (L * 4 + i)) ∧
  (∀ p, p < 26 → chg p = 0 ∨ chg p = 1)
theorem hf1_lt (s L : Nat) : hf1 s L + 1 < 8 := by unfold hf1; omega
theorem hf2_lt (s L : Nat) : hf2 s L + 1 < 26 := by unfold hf2; omega
theorem hf2_ge (s L : Nat) : 10 ≤ hf2 s L := by unfold hf2; omega
theorem hn_m1 {L : Nat} (h : L < 64) : nI L ≠ -1 := by
  intro e
  have h1 := nI_toInt (n := L) (by omega)
  rw [e] at h1
  have h2 : (-1 : Int32).toInt = -1 := by decide
  omega
theorem hn_inj {a b : Nat} (ha : a < 64) (hb : b < 64) (h : nI a = nI b) : a = b := (nI_eq (by omega) (by omega)).mp h
theorem hu_s {f : Nat → Int32} {k : Nat} {x : Int32} : upd f k x k = x := by simp [upd]
theorem hu_n {f : Nat → Int32} {k j : Nat} {x : Int32} (h : j ≠ k) : upd f k x j = f j := by simp [upd, h]
/-- four words copied, i of them so far -/
def h4 (dst src : Nat → Int32) (t f i : Nat) : Nat → Int32 := fun j => if t * 4 ≤ j ∧ j < t * 4 + i then src (f * 4 + (j - t * 4)) else dst j
theorem h4_0 (d s : Nat → Int32) (t f : Nat) : h4 d s t f 0 = d := by
  funext j
  unfold h4
  rw [if_neg (by omega)]
theorem h4_s (d s : Nat → Int32) (t f i : Nat) : upd (h4 d s t f i) (t * 4 + i) (s (f * 4 + i)) = h4 d s t f (i + 1) := by
  funext j
  unfold upd
  by_cases h : j = t * 4 + i
  · subst h
    rw [if_pos rfl]
    unfold h4
    rw [if_pos (by omega), show t * 4 + i - t * 4 = i by omega]
  · rw [if_neg h]
    unfold h4
    by_cases h2 : t * 4 ≤ j ∧ j < t * 4 + i
    · rw [if_pos h2, if_pos (by omega)]
    · rw [if_neg h2, if_neg (by omega)]
theorem h4_at (d s : Nat → Int32) (t f p i : Nat) (hi : i < 4) : h4 d s t f 4 (p * 4 + i) = if p = t then s (f * 4 + i) else d (p * 4 + i) := by
  unfold h4
  by_cases h : p = t
  · subst h
    rw [if_pos (by omega), if_pos rfl, show p * 4 + i - p * 4 = i by omega]
  · rw [if_neg (by omega), if_neg h]
theorem h4_oth (d s : Nat → Int32) (t f i q k : Nat) (hq : q ≠ t) (hk : k < 4) (hi : i ≤ 4) : h4 d s t f i (q * 4 + k) = d (q * 4 + k) := by
  unfold h4
  rw [if_neg (by omega)]
theorem h4_s' (w : Nat → Int32) (t f i : Nat) (hft : f ≠ t) (hi : i < 4) : upd (h4 w w t f i) (t * 4 + i) (h4 w w t f i (f * 4 + i)) = h4 w w t f (i + 1) := by
  rw [h4_oth w w t f i f i hft hi (by omega), h4_s]
section PURE
variable {fs ss : Nat} {M mem lin chg wrd : Nat → Int32}
theorem hInv.ofl (h : hInv fs ss M mem lin chg wrd) {p : Nat} (hp : p < 26) (hn : lin p ≠ -1) : ∃ L, L < 64 ∧ lin p = nI L ∧ hOk fs ss p L ∧ ∀ i, i < 4 → wrd (p * 4 + i) = M (L * 4 + i) := by
  rcases h.1 p hp with h1 | h1
  · exact absurd h1 hn
  · exact h1
theorem hInv.ofw (h : hInv fs ss M mem lin chg wrd) {p L : Nat} (hp : p < 26) (hL : L < 64) (hl : lin p = nI L) : hOk fs ss p L ∧ ∀ i, i < 4 → wrd (p * 4 + i) = M (L * 4 + i) := by
  obtain ⟨L2, h1, h2, h3, h4⟩ := h.ofl hp (by rw [hl]; exact hn_m1 hL)
  have := hn_inj h1 hL (h2.symm.trans hl)
  subst this
  exact ⟨h3, h4⟩
theorem hInv.move (h : hInv fs ss M mem lin chg wrd) {f t L : Nat} (hf : f < 26) (ht : t < 26) (hne : f ≠ t) (hL : L < 64) (hfl : lin f = nI L) (hok : hOk fs ss t L) (hc : lin t = -1 ∨ chg t = 0) :
    hInv fs ss M mem (upd (upd lin t (lin f)) f (-1)) (upd (upd chg t (chg f)) f 0) (h4 wrd wrd t f 4) := by
  have el : ∀ p, p ≠ f → p ≠ t → upd (upd lin t (lin f)) f (-1) p = lin p := fun p h1 h2 => by rw [hu_n h1, hu_n h2]
  have elt : upd (upd lin t (lin f)) f (-1) t = nI L := by rw [hu_n (Ne.symm hne), hu_s, hfl]
  have elf : upd (upd lin t (lin f)) f (-1) f = -1 := hu_s
  have ec : ∀ p, p ≠ f → p ≠ t → upd (upd chg t (chg f)) f 0 p = chg p := fun p h1 h2 => by rw [hu_n h1, hu_n h2]
  have ect : upd (upd chg t (chg f)) f 0 t = chg f := by rw [hu_n (Ne.symm hne), hu_s]
  have ecf : upd (upd chg t (chg f)) f 0 f = 0 := hu_s
  obtain ⟨h1, h2, h3, h4'⟩ := h
  refine ⟨fun p hp => ?_, fun p q L' hp hq hL' e1 e2 => ?_, fun L' i hL' hi hall => ?_, fun p hp => ?_⟩
  · by_cases hpf : p = f
    · subst hpf; exact Or.inl elf
    · by_cases hpt : p = t
      · subst hpt
        refine Or.inr ⟨L, hL, elt, hok, fun i hi => ?_⟩
        rw [h4_at _ _ _ _ _ _ hi, if_pos rfl]
        exact (hInv.ofw (chg := chg) (mem := mem) ⟨h1, h2, h3, h4'⟩ hf hL hfl).2 i hi
      · rw [el p hpf hpt]
        rcases h1 p hp with a | ⟨L2, a1, a2, a3, a4⟩
        · exact Or.inl a
        · refine Or.inr ⟨L2, a1, a2, a3, fun i hi => ?_⟩
          rw [h4_at _ _ _ _ _ _ hi, if_neg hpt]
          exact a4 i hi
  · have hpf : p ≠ f := fun z => by subst z; rw [elf] at e1; exact hn_m1 hL' e1.symm
    have hqf : q ≠ f := fun z => by subst z; rw [elf] at e2; exact hn_m1 hL' e2.symm
    by_cases hpt : p = t
    · by_cases hqt : q = t
      · rw [hpt, hqt]
      · exfalso
        subst hpt
        rw [elt] at e1
        rw [el q hqf hqt] at e2
        exact hqf (h2 q f L hq hf hL (e2.trans e1.symm) hfl)
    · by_cases hqt : q = t
      · exfalso
        subst hqt
        rw [elt] at e2
        rw [el p hpf hpt] at e1
        exact hpf (h2 p f L hp hf hL (e1.trans e2.symm) hfl)
      · rw [el p hpf hpt] at e1
        rw [el q hqf hqt] at e2
        exact h2 p q L' hp hq hL' e1 e2
  · refine h3 L' i hL' hi (fun p hp e => ?_)
    by_cases hpf : p = f
    · subst hpf
      have : L' = L := hn_inj hL' hL (e.symm.trans hfl)
      subst this
      rw [← ect]
      exact hall t ht elt
    · by_cases hpt : p = t
      · subst hpt
        rcases hc with hc | hc
        · exact absurd (e.symm.trans hc) (hn_m1 hL')
        · exact hc
      · rw [← ec p hpf hpt]
        exact hall p hp (by rw [el p hpf hpt]; exact e)
  · by_cases hpf : p = f
    · subst hpf; exact Or.inl ecf
    · by_cases hpt : p = t
      · subst hpt; rw [ect]; exact h4' f hf
      · rw [ec p hpf hpt]; exact h4' p hp
/-- a changed line written back -/
theorem hInv.back (h : hInv fs ss M mem lin chg wrd) {p L : Nat} (hp : p < 26) (hL : L < 64) (hl : lin p = nI L) : hInv fs ss M (h4 mem wrd L p 4) lin (upd chg p 0) wrd := by
  obtain ⟨-, hw⟩ := h.ofw hp hL hl
  obtain ⟨h1, h2, h3, h4'⟩ := h
  refine ⟨h1, h2, fun L' i hL' hi hall => ?_, fun q hq => ?_⟩
  · rw [h4_at _ _ _ _ _ _ hi]
    by_cases e : L' = L
    · subst e
      rw [if_pos rfl]
      exact hw i hi
    · rw [if_neg e]
      refine h3 L' i hL' hi (fun q hq e2 => ?_)
      have hqp : q ≠ p := fun z => by subst z; exact e (hn_inj hL' hL (e2.symm.trans hl))
      rw [← hu_n (f := chg) (x := 0) hqp]
      exact hall q hq e2
  · by_cases e : q = p
    · subst e; exact Or.inl hu_s
    · rw [hu_n e]; exact h4' q hq
/-- an empty or unchanged place marked unchanged -/
theorem hInv.clean (h : hInv fs ss M mem lin chg wrd) {p : Nat} (hp : p < 26) (hc : lin p = -1 ∨ chg p = 0) : hInv fs ss M mem lin (upd chg p 0) wrd := by
  obtain ⟨h1, h2, h3, h4'⟩ := h
  refine ⟨h1, h2, fun L' i hL' hi hall => ?_, fun q hq => ?_⟩
  · refine h3 L' i hL' hi (fun q hq e2 => ?_)
    by_cases e : q = p
    · subst e
      rcases hc with hc | hc
      · exact absurd (e2.symm.trans hc) (hn_m1 hL')
      · exact hc
    · rw [← hu_n (f := chg) (x := 0) e]
      exact hall q hq e2
  · by_cases e : q = p
    · subst e; exact Or.inl hu_s
    · rw [hu_n e]; exact h4' q hq
/-- a line that is nowhere read into an empty or unchanged place -/
theorem hInv.rd (h : hInv fs ss M mem lin chg wrd) {p L : Nat} (hp : p < 26) (hL : L < 64) (hc : lin p = -1 ∨ chg p = 0) (hno : ∀ q, q < 26 → lin q ≠ nI L) (hok : hOk fs ss p L) :
    hInv fs ss M mem (upd lin p (nI L)) (upd chg p 0) (h4 wrd mem p L 4) := by
  obtain ⟨h1, h2, h3, h4'⟩ := h
  refine ⟨fun q hq => ?_, fun a b L' ha hb hL' e1 e2 => ?_, fun L' i hL' hi hall => ?_, fun q hq => ?_⟩
  · by_cases e : q = p
    · subst e
      refine Or.inr ⟨L, hL, hu_s, hok, fun i hi => ?_⟩
      rw [h4_at _ _ _ _ _ _ hi, if_pos rfl]
      exact h3 L i hL hi (fun a ha e => absurd e (hno a ha))
    · rw [hu_n e]
      rcases h1 q hq with a | ⟨L2, a1, a2, a3, a4⟩
      · exact Or.inl a
      · refine Or.inr ⟨L2, a1, a2, a3, fun i hi => ?_⟩
        rw [h4_at _ _ _ _ _ _ hi, if_neg e]
        exact a4 i hi
  · by_cases ea : a = p
    · by_cases eb : b = p
      · rw [ea, eb]
      · exfalso
        subst ea
        rw [hu_s] at e1
        rw [hu_n eb] at e2
        exact hno b hb (e2.trans e1.symm)
    · by_cases eb : b = p
      · exfalso
        subst eb
        rw [hu_s] at e2
        rw [hu_n ea] at e1
        exact hno a ha (e1.trans e2.symm)
      · rw [hu_n ea] at e1
        rw [hu_n eb] at e2
        exact h2 a b L' ha hb hL' e1 e2
  · refine h3 L' i hL' hi (fun q hq e2 => ?_)
    by_cases e : q = p
    · subst e
      rcases hc with hc | hc
      · exact absurd (e2.symm.trans hc) (hn_m1 hL')
      · exact hc
    · rw [← hu_n (f := chg) (x := 0) e]
      exact hall q hq (by rw [hu_n e]; exact e2)
  · by_cases e : q = p
    · subst e; exact Or.inl hu_s
    · rw [hu_n e]; exact h4' q hq
/-- an unchanged or empty place emptied -/
theorem hInv.drop (h : hInv fs ss M mem lin chg wrd) {p : Nat} (hp : p < 26) (hc : lin p = -1 ∨ chg p = 0) : hInv fs ss M mem (upd lin p (-1)) chg wrd := by
  obtain ⟨h1, h2, h3, h4'⟩ := h
  refine ⟨fun q hq => ?_, fun a b L' ha hb hL' e1 e2 => ?_, fun L' i hL' hi hall => ?_, h4'⟩
  · by_cases e : q = p
    · subst e; exact Or.inl hu_s
    · rw [hu_n e]; exact h1 q hq
  · have ea : a ≠ p := fun z => by subst z; rw [hu_s] at e1; exact hn_m1 hL' e1.symm
    have eb : b ≠ p := fun z => by subst z; rw [hu_s] at e2; exact hn_m1 hL' e2.symm
    rw [hu_n ea] at e1
    rw [hu_n eb] at e2
    exact h2 a b L' ha hb hL' e1 e2
  · refine h3 L' i hL' hi (fun q hq e2 => ?_)
    by_cases e : q = p
    · subst e
      rcases hc with hc | hc
      · exact absurd (e2.symm.trans hc) (hn_m1 hL')
      · exact hc
    · exact hall q hq (by rw [hu_n e]; exact e2)
theorem hi_ne {p L i q K k : Nat} (hi : i < 4) (hk : k < 4) (h : q ≠ p ∨ k ≠ i) : q * 4 + k ≠ p * 4 + i := by omega
/-- a word written in its place, which is changed then -/
theorem hInv.put (h : hInv fs ss M mem lin chg wrd) {p L i : Nat} (v : Int32) (hp : p < 26) (hL : L < 64) (hi : i < 4) (hl : lin p = nI L) : hInv fs ss (upd M (L * 4 + i) v) mem lin (upd chg p 1) (upd wrd (p * 4 + i) v) := by
  obtain ⟨h1, h2, h3, h4'⟩ := h
  refine ⟨fun q hq => ?_, h2, fun L' k hL' hk hall => ?_, fun q hq => ?_⟩
  · rcases h1 q hq with a | ⟨L2, a1, a2, a3, a4⟩
    · exact Or.inl a
    · refine Or.inr ⟨L2, a1, a2, a3, fun k hk => ?_⟩
      by_cases e : q = p
      · subst e
        have : L2 = L := hn_inj a1 hL (a2.symm.trans hl)
        subst this
        by_cases e2 : k = i
        · subst e2; rw [hu_s, hu_s]
        · rw [hu_n (by omega), hu_n (by omega)]; exact a4 k hk
      · have hne : L2 ≠ L := fun z => by subst z; exact e (h2 q p L2 hq hp hL a2 hl)
        rw [hu_n (by omega), hu_n (by omega)]; exact a4 k hk
  · have hne : L' ≠ L := by
      intro z
      subst z
      have := hall p hp hl
      rw [hu_s] at this
      exact absurd this (by decide)
    rw [hu_n (by omega)]
    refine h3 L' k hL' hk (fun q hq e2 => ?_)
    have hqp : q ≠ p := fun z => by subst z; exact hne (hn_inj hL' hL (e2.symm.trans hl))
    rw [← hu_n (f := chg) (x := 1) hqp]
    exact hall q hq e2
  · by_cases e : q = p
    · subst e; exact Or.inr hu_s
    · rw [hu_n e]; exact h4' q hq
/-- a word written in a place that is changed already -/
theorem hInv.put1 (h : hInv fs ss M mem lin chg wrd) {p L i : Nat} (v : Int32) (hp : p < 26) (hL : L < 64) (hi : i < 4) (hl : lin p = nI L) (hc : chg p ≠ 0) : hInv fs ss (upd M (L * 4 + i) v) mem lin chg (upd wrd (p * 4 + i) v) := by
  have hc1 : chg p = 1 := by
    rcases h.2.2.2 p hp with a | a
    · exact absurd a hc
    · exact a
  have := h.put v hp hL hi hl
  have e : upd chg p 1 = chg := by
    funext j
    by_cases ej : j = p
    · subst ej; rw [hu_s, hc1]
    · rw [hu_n ej]
  rw [e] at this
  exact this
/-- a word written in memory, its line nowhere -/
theorem hInv.putm (h : hInv fs ss M mem lin chg wrd) {L i : Nat} (v : Int32) (hL : L < 64) (hi : i < 4) (hno : ∀ q, q < 26 → lin q ≠ nI L) : hInv fs ss (upd M (L * 4 + i) v) (upd mem (L * 4 + i) v) lin chg wrd := by
  obtain ⟨h1, h2, h3, h4'⟩ := h
  refine ⟨fun q hq => ?_, h2, fun L' k hL' hk hall => ?_, h4'⟩
  · rcases h1 q hq with a | ⟨L2, a1, a2, a3, a4⟩
    · exact Or.inl a
    · refine Or.inr ⟨L2, a1, a2, a3, fun k hk => ?_⟩
      have hne : L2 ≠ L := fun z => by subst z; exact hno q hq a2
      rw [hu_n (by omega)]
      exact a4 k hk
  · by_cases e : L' = L ∧ k = i
    · obtain ⟨e1, e2⟩ := e
      subst e1; subst e2
      rw [hu_s, hu_s]
    · rw [hu_n (by omega), hu_n (by omega)]
      exact h3 L' k hL' hk hall
/-- a word of a line that is nowhere is in memory -/
theorem hInv.ofm (h : hInv fs ss M mem lin chg wrd) {L i : Nat} (hL : L < 64) (hi : i < 4) (hno : ∀ q, q < 26 → lin q ≠ nI L) : mem (L * 4 + i) = M (L * 4 + i) :=
  h.2.2.1 L i hL hi (fun q hq e => absurd e (hno q hq))
/-- in none of its six places: nowhere -/
theorem hInv.no (h : hInv fs ss M mem lin chg wrd) {L : Nat} (hL : L < 64) (h1 : lin (hf1 fs L) ≠ nI L) (h2 : lin (hf1 fs L + 1) ≠ nI L) (h3 : lin 8 ≠ nI L) (h4 : lin 9 ≠ nI L) (h5 : lin (hf2 ss L) ≠ nI L) (h6 : lin (hf2 ss L + 1) ≠ nI L) : ∀ q, q < 26 → lin q ≠ nI L := by
  intro q hq e
  obtain ⟨ok, -⟩ := h.ofw hq hL e
  rcases ok with a | a | a | a | a | a <;> subst a
  · exact h1 e
  · exact h2 e
  · exact h3 e
  · exact h4 e
  · exact h5 e
  · exact h6 e
end PURE
/-- the start: every place empty, all words 0 -/
theorem hInv_0 (fs ss : Nat) {lin : Nat → Int32} (h : ∀ p, p < 26 → lin p = -1) : hInv fs ss (fun _ => 0) (fun _ => 0) lin (fun _ => 0) (fun _ => 0) := by
  refine ⟨fun p hp => Or.inl (h p hp), fun p q L hp hq hL e1 e2 => ?_, fun L i hL hi hall => rfl, fun p hp => Or.inl rfl⟩
  rw [h p hp] at e1
  exact absurd e1.symm (hn_m1 hL)
/-! numbers -/
theorem hx_s2 : ∀ n, n < 2 → ((nI n &&& 31).toBitVec.smod 32).toNat = n := by
  intro n h
  rcases (show n = 0 ∨ n = 1 by omega) with e | e <;> subst e <;> decide
theorem hx_f1 {s L : Nat} (hs : s < 2) (hL : L < 64) : nI 2 * ((nI L >>> (nI s &&& 31)) &&& nI 3) = nI (hf1 s L) := by
  rw [pk_shrN (by omega) _ s (hx_s2 s hs), pk_andN (Nat.lt_of_le_of_lt (Nat.div_le_self _ _) (by omega)) 2 (by decide), pk_mul]
  rfl
theorem hx_f2 {s L : Nat} (hs : s < 2) (hL : L < 64) : nI 10 + nI 2 * ((nI L >>> (nI s &&& 31)) &&& nI 7) = nI (hf2 s L) := by
  rw [pk_shrN (by omega) _ s (hx_s2 s hs), pk_andN (Nat.lt_of_le_of_lt (Nat.div_le_self _ _) (by omega)) 3 (by decide), pk_mul, nI_add]
  rfl
theorem hx_sh2 {a : Nat} (h : a < 2 ^ 31) : nI a >>> (nI 2 &&& 31) = nI (a / 4) := pk_shrN h _ 2 (by decide)
theorem hx_a3 {a : Nat} (h : a < 2 ^ 31) : nI a &&& nI 3 = nI (a % 4) := pk_andN (by omega) 2 (by decide)
theorem hx_lt0 {a : Nat} (h : a < 2 ^ 31) : ¬ nI a < 0 := nI_pos h
theorem hx_m1lt : (-1 : Int32) < 0 := by decide
theorem hx_m1ne {a : Nat} (h : a < 2 ^ 31) : nI a ≠ -1 := by
  intro e
  have h1 := nI_toInt (n := a) h
  rw [e] at h1
  have h2 : (-1 : Int32).toInt = -1 := by decide
  omega
end
section
set_option maxRecDepth 100000
/-! the words of the calls within HiddenCaches -/
theorem xw_bad {R : Room} {s : State} {args : Array Value} {rm : Room} {mc ms : Nat} (ht : ∀ w ∈ lw_all, w.before args s = true) (hc : rm.cells = mc) (hs : rm.slots = ms) (hR : rm.frames + 1 ≤ R.frames ∧ 8 + (1 + 11) + rm.locals ≤ R.locals) : CallB R s args RX1 95 yX1_bad cX1_bad 1 (some .boolean) (ws_ yX1_bad cX1_bad 1 (some .boolean)) rm mc ms 1 ∧ (Cond.static yX1_bad).before args s = true := va_cwS 1 ht (lw_S q75 q76 q25 q77) rfl hc hs (by decide +kernel) hR
theorem xw_firstPlace {R : Room} {s : State} {args : Array Value} {rm : Room} {mc ms : Nat} (ht : ∀ w ∈ lw_all, w.before args s = true) (hc : rm.cells = mc) (hs : rm.slots = ms) (hR : rm.frames + 1 ≤ R.frames ∧ 8 + (2 + 11) + rm.locals ≤ R.locals) : CallW R s args RX1 RX1 67 yX1_firstPlace cX1_firstPlace 2 (some .int) (ws_ yX1_firstPlace cX1_firstPlace 2 (some .int)) rm mc ms 1 := cwV 1 ht (lw_V q90 q92 qs3 q25 q93) rfl hc hs (by decide +kernel) hR
theorem xw_secondPlace {R : Room} {s : State} {args : Array Value} {rm : Room} {mc ms : Nat} (ht : ∀ w ∈ lw_all, w.before args s = true) (hc : rm.cells = mc) (hs : rm.slots = ms) (hR : rm.frames + 1 ≤ R.frames ∧ 8 + (2 + 11) + rm.locals ≤ R.locals) : CallW R s args RX1 RX1 50 yX1_secondPlace cX1_secondPlace 2 (some .int) (ws_ yX1_secondPlace cX1_secondPlace 2 (some .int)) rm mc ms 1 := cwV 1 ht (lw_V q118 q120 qs10 q25 q121) rfl hc hs (by decide +kernel) hR
theorem xw_among {R : Room} {s : State} {args : Array Value} {rm : Room} {mc ms : Nat} (ht : ∀ w ∈ lw_all, w.before args s = true) (hc : rm.cells = mc) (hs : rm.slots = ms) (hR : rm.frames + 1 ≤ R.frames ∧ 8 + (3 + 11) + rm.locals ≤ R.locals) : CallW R s args RX1 RX1 73 yX1_among cX1_among 3 (some .int) (ws_ yX1_among cX1_among 3 (some .int)) rm mc ms 2 := cwV 2 ht (lw_V q94 q96 qs4 q25 q97) rfl hc hs (by decide +kernel) hR
theorem xw_older {R : Room} {s : State} {args : Array Value} {rm : Room} {mc ms : Nat} (ht : ∀ w ∈ lw_all, w.before args s = true) (hc : rm.cells = mc) (hs : rm.slots = ms) (hR : rm.frames + 1 ≤ R.frames ∧ 8 + (2 + 11) + rm.locals ≤ R.locals) : CallW R s args RX1 RX1 54 yX1_older cX1_older 2 (some .int) (ws_ yX1_older cX1_older 2 (some .int)) rm mc ms 1 := cwV 1 ht (lw_V q106 q108 qs7 q25 q109) rfl hc hs (by decide +kernel) hR
theorem xw_touch {R : Room} {s : State} {args : Array Value} {rm : Room} {mc ms : Nat} (ht : ∀ w ∈ lw_all, w.before args s = true) (hc : rm.cells = mc) (hs : rm.slots = ms) (hR : rm.frames + 1 ≤ R.frames ∧ 8 + (2 + 11) + rm.locals ≤ R.locals) : CallW R s args RX1 RX1 46 yX1_touch cX1_touch 2 none (ws_ yX1_touch cX1_touch 2 none) rm mc ms 1 := cwV 1 ht (lw_V q98 q100 qs5 q25 q101) rfl hc hs (by decide +kernel) hR
theorem xw_moveLine {R : Room} {s : State} {args : Array Value} {rm : Room} {mc ms : Nat} (ht : ∀ w ∈ lw_all, w.before args s = true) (hc : rm.cells = mc) (hs : rm.slots = ms) (hR : rm.frames + 1 ≤ R.frames ∧ 8 + (4 + 11) + rm.locals ≤ R.locals) : CallW R s args RX1 RX1 60 yX1_moveLine cX1_moveLine 4 none (ws_ yX1_moveLine cX1_moveLine 4 none) rm mc ms 2 := cwV 2 ht (lw_V q126 q128 qs12 q25 q129) rfl hc hs (by decide +kernel) hR
theorem xw_writeBack {R : Room} {s : State} {args : Array Value} {rm : Room} {mc ms : Nat} (ht : ∀ w ∈ lw_all, w.before args s = true) (hc : rm.cells = mc) (hs : rm.slots = ms) (hR : rm.frames + 1 ≤ R.frames ∧ 8 + (3 + 11) + rm.locals ≤ R.locals) : CallW R s args RX1 RX1 57 yX1_writeBack cX1_writeBack 3 none (ws_ yX1_writeBack cX1_writeBack 3 none) rm mc ms 1 := cwV 1 ht (lw_V q122 q124 qs11 q25 q125) rfl hc hs (by decide +kernel) hR
theorem xw_readIn {R : Room} {s : State} {args : Array Value} {rm : Room} {mc ms : Nat} (ht : ∀ w ∈ lw_all, w.before args s = true) (hc : rm.cells = mc) (hs : rm.slots = ms) (hR : rm.frames + 1 ≤ R.frames ∧ 8 + (4 + 11) + rm.locals ≤ R.locals) : CallW R s args RX1 RX1 83 yX1_readIn cX1_readIn 4 none (ws_ yX1_readIn cX1_readIn 4 none) rm mc ms 2 := cwV 2 ht (lw_V q134 q136 qs14 q25 q137) rfl hc hs (by decide +kernel) hR
theorem xw_sinkToSecond {R : Room} {s : State} {args : Array Value} {rm : Room} {mc ms : Nat} (ht : ∀ w ∈ lw_all, w.before args s = true) (hc : rm.cells = mc) (hs : rm.slots = ms) (hR : rm.frames + 1 ≤ R.frames ∧ 8 + (4 + 11) + rm.locals ≤ R.locals) : CallW R s args RX1 RX1 64 yX1_sinkToSecond cX1_sinkToSecond 4 none (ws_ yX1_sinkToSecond cX1_sinkToSecond 4 none) rm mc ms 1 := cwV 1 ht (lw_V q114 q116 qs9 q25 q117) rfl hc hs (by decide +kernel) hR
theorem xw_sinkToBuffer {R : Room} {s : State} {args : Array Value} {rm : Room} {mc ms : Nat} (ht : ∀ w ∈ lw_all, w.before args s = true) (hc : rm.cells = mc) (hs : rm.slots = ms) (hR : rm.frames + 1 ≤ R.frames ∧ 8 + (3 + 11) + rm.locals ≤ R.locals) : CallW R s args RX1 RX1 70 yX1_sinkToBuffer cX1_sinkToBuffer 3 none (ws_ yX1_sinkToBuffer cX1_sinkToBuffer 3 none) rm mc ms 1 := cwV 1 ht (lw_V q110 q112 qs8 q25 q113) rfl hc hs (by decide +kernel) hR
theorem xw_makeRoom {R : Room} {s : State} {args : Array Value} {rm : Room} {mc ms : Nat} (ht : ∀ w ∈ lw_all, w.before args s = true) (hc : rm.cells = mc) (hs : rm.slots = ms) (hR : rm.frames + 1 ≤ R.frames ∧ 8 + (4 + 11) + rm.locals ≤ R.locals) : CallW R s args RX1 RX1 77 yX1_makeRoom cX1_makeRoom 4 (some .int) (ws_ yX1_makeRoom cX1_makeRoom 4 (some .int)) rm mc ms 1 := cwV 1 ht (lw_V q102 q104 qs6 q25 q105) rfl hc hs (by decide +kernel) hR
theorem xw_lowerPlace {R : Room} {s : State} {args : Array Value} {rm : Room} {mc ms : Nat} (ht : ∀ w ∈ lw_all, w.before args s = true) (hc : rm.cells = mc) (hs : rm.slots = ms) (hR : rm.frames + 1 ≤ R.frames ∧ 8 + (4 + 11) + rm.locals ≤ R.locals) : CallW R s args RX1 RX1 80 yX1_lowerPlace cX1_lowerPlace 4 (some .int) (ws_ yX1_lowerPlace cX1_lowerPlace 4 (some .int)) rm mc ms 1 := cwV 1 ht (lw_V q130 q132 qs13 q25 q133) rfl hc hs (by decide +kernel) hR
theorem xw_bring {R : Room} {s : State} {args : Array Value} {rm : Room} {mc ms : Nat} (ht : ∀ w ∈ lw_all, w.before args s = true) (hc : rm.cells = mc) (hs : rm.slots = ms) (hR : rm.frames + 1 ≤ R.frames ∧ 8 + (6 + 11) + rm.locals ≤ R.locals) : CallW R s args RX1 RX1 89 yX1_bring cX1_bring 6 (some .int) (ws_ yX1_bring cX1_bring 6 (some .int)) rm mc ms 1 := cwV 1 ht (lw_V q86 q88 qs2 q25 q89) rfl hc hs (by decide +kernel) hR
theorem xw_fetchAhead {R : Room} {s : State} {args : Array Value} {rm : Room} {mc ms : Nat} (ht : ∀ w ∈ lw_all, w.before args s = true) (hc : rm.cells = mc) (hs : rm.slots = ms) (hR : rm.frames + 1 ≤ R.frames ∧ 8 + (7 + 11) + rm.locals ≤ R.locals) : CallW R s args RX1 RX1 86 yX1_fetchAhead cX1_fetchAhead 7 none (ws_ yX1_fetchAhead cX1_fetchAhead 7 none) rm mc ms 1 := cwV 1 ht (lw_V q138 q140 qs15 q25 q141) rfl hc hs (by decide +kernel) hR
theorem xw_placeOf {R : Room} {s : State} {args : Array Value} {rm : Room} {mc ms : Nat} (ht : ∀ w ∈ lw_all, w.before args s = true) (hc : rm.cells = mc) (hs : rm.slots = ms) (hR : rm.frames + 1 ≤ R.frames ∧ 8 + (3 + 11) + rm.locals ≤ R.locals) : CallW R s args RX1 RX1 92 yX1_placeOf cX1_placeOf 3 (some .int) (ws_ yX1_placeOf cX1_placeOf 3 (some .int)) rm mc ms 1 := cwV 1 ht (lw_V q82 q84 qs1 q25 q85) rfl hc hs (by decide +kernel) hR
theorem xw_write {R : Room} {s : State} {args : Array Value} {rm : Room} {mc ms : Nat} (ht : ∀ w ∈ lw_all, w.before args s = true) (hc : rm.cells = mc) (hs : rm.slots = ms) (hR : rm.frames + 1 ≤ R.frames ∧ 8 + (4 + 11) + rm.locals ≤ R.locals) : CallW R s args RX1 RX1 102 yX1_write cX1_write 4 none (ws_ yX1_write cX1_write 4 none) rm mc ms 2 := cwV 2 ht (lw_V q146 q148 qs16 q25 q149) rfl hc hs (by decide +kernel) hR
theorem xw_read {R : Room} {s : State} {args : Array Value} {rm : Room} {mc ms : Nat} (ht : ∀ w ∈ lw_all, w.before args s = true) (hc : rm.cells = mc) (hs : rm.slots = ms) (hR : rm.frames + 1 ≤ R.frames ∧ 8 + (3 + 11) + rm.locals ≤ R.locals) : CallW R s args RX1 RX1 99 yX1_read cX1_read 3 (some .int) (ws_ yX1_read cX1_read 3 (some .int)) rm mc ms 1 := cwV 1 ht (lw_V q78 q80 qs0 q25 q81) rfl hc hs (by decide +kernel) hR
theorem xw_anyPlace {R : Room} {s : State} {args : Array Value} {rm : Room} {mc ms : Nat} (ht : ∀ w ∈ lw_all, w.before args s = true) (hc : rm.cells = mc) (hs : rm.slots = ms) (hR : rm.frames + 1 ≤ R.frames ∧ 8 + (4 + 11) + rm.locals ≤ R.locals) : CallW R s args RX1 RX1 105 yX1_anyPlace cX1_anyPlace 4 (some .int) (ws_ yX1_anyPlace cX1_anyPlace 4 (some .int)) rm mc ms 1 := cwV 1 ht (lw_V q186 q188 qs18 q25 q189) rfl hc hs (by decide +kernel) hR
theorem xw_deviceWord {R : Room} {s : State} {args : Array Value} {rm : Room} {mc ms : Nat} (ht : ∀ w ∈ lw_all, w.before args s = true) (hc : rm.cells = mc) (hs : rm.slots = ms) (hR : rm.frames + 1 ≤ R.frames ∧ 8 + (3 + 11) + rm.locals ≤ R.locals) : CallW R s args RX1 RX1 108 yX1_deviceWord cX1_deviceWord 3 (some .int) (ws_ yX1_deviceWord cX1_deviceWord 3 (some .int)) rm mc ms 1 := cwV 1 ht (lw_V q182 q184 qs17 q25 q185) rfl hc hs (by decide +kernel) hR
theorem xw_devicePut {R : Room} {s : State} {args : Array Value} {rm : Room} {mc ms : Nat} (ht : ∀ w ∈ lw_all, w.before args s = true) (hc : rm.cells = mc) (hs : rm.slots = ms) (hR : rm.frames + 1 ≤ R.frames ∧ 8 + (4 + 11) + rm.locals ≤ R.locals) : CallW R s args RX1 RX1 111 yX1_devicePut cX1_devicePut 4 none (ws_ yX1_devicePut cX1_devicePut 4 none) rm mc ms 2 := cwV 2 ht (lw_V q194 q196 qs19 q25 q197) rfl hc hs (by decide +kernel) hR
theorem xw_empty {R : Room} {s : State} {args : Array Value} {rm : Room} {mc ms : Nat} (ht : ∀ w ∈ lw_all, w.before args s = true) (hc : rm.cells = mc) (hs : rm.slots = ms) (hR : rm.frames + 1 ≤ R.frames ∧ 8 + (2 + 11) + rm.locals ≤ R.locals) : CallW R s args RX1 RX1 114 yX1_empty cX1_empty 2 none (ws_ yX1_empty cX1_empty 2 none) rm mc ms 1 := cwV 1 ht (lw_V q206 q208 qs20 q25 q209) rfl hc hs (by decide +kernel) hR
/-! what 'among' answers -/
def hAm (lin : Nat → Int32) (f : Nat) (x r : Int32) : Prop := (lin f = x ∧ r = nI f) ∨ (lin f ≠ x ∧ lin (f + 1) = x ∧ r = nI (f + 1)) ∨ (lin f ≠ x ∧ lin (f + 1) ≠ x ∧ r = -1)
theorem hAm.neg {lin : Nat → Int32} {f : Nat} {x r : Int32} (h : hAm lin f x r) (hf : f < 1000) (hr : r < 0) : lin f ≠ x ∧ lin (f + 1) ≠ x ∧ r = -1 := by
  rcases h with ⟨-, h⟩ | ⟨-, -, h⟩ | h
  · rw [h] at hr; exact absurd hr (nI_pos (by omega))
  · rw [h] at hr; exact absurd hr (nI_pos (by omega))
  · exact h
theorem hAm.pos {lin : Nat → Int32} {f : Nat} {x r : Int32} (h : hAm lin f x r) (hr : ¬ r < 0) : ∃ q, r = nI q ∧ (q = f ∨ q = f + 1) ∧ lin q = x := by
  rcases h with ⟨a, h⟩ | ⟨-, a, h⟩ | ⟨-, -, h⟩
  · exact ⟨f, h, Or.inl rfl, a⟩
  · exact ⟨f + 1, h, Or.inr rfl, a⟩
  · rw [h] at hr; exact absurd (by decide) hr
def hLow (lin : Nat → Int32) (g : Nat) (x r : Int32) : Prop := (r = -1 ∧ lin 8 ≠ x ∧ lin 9 ≠ x ∧ lin g ≠ x ∧ lin (g + 1) ≠ x) ∨ ∃ q, r = nI q ∧ (q = 8 ∨ q = 9 ∨ q = g ∨ q = g + 1) ∧ lin q = x
theorem hLow.neg {lin : Nat → Int32} {g : Nat} {x r : Int32} (h : hLow lin g x r) (hg : g < 1000) (hr : r < 0) : lin 8 ≠ x ∧ lin 9 ≠ x ∧ lin g ≠ x ∧ lin (g + 1) ≠ x := by
  rcases h with ⟨-, h⟩ | ⟨q, h, hq, -⟩
  · exact h
  · rw [h] at hr; exact absurd hr (nI_pos (by omega))
theorem hLow.pos {lin : Nat → Int32} {g : Nat} {x r : Int32} (h : hLow lin g x r) (hr : ¬ r < 0) : ∃ q, r = nI q ∧ (q = 8 ∨ q = 9 ∨ q = g ∨ q = g + 1) ∧ lin q = x := by
  rcases h with ⟨h, -⟩ | h
  · rw [h] at hr; exact absurd (by decide) hr
  · exact h
theorem hx_ltle {a b : Int32} (h : b ≤ a) : ¬ a < b := by
  rw [Int32.le_iff_toInt_le] at h
  rw [Int32.lt_iff_toInt_lt]
  omega
theorem hx_nlt {a : Int32} (h : ¬ 0 ≤ a) : a < 0 := by
  rw [Int32.le_iff_toInt_le] at h
  rw [Int32.lt_iff_toInt_lt]
  omega
theorem hx_4 (i : Nat) : nI i + Int32.ofInt 4 = nI (i + 4) := nI_add i 4
abbrev spBad (a : Int32) (n : Nat) : Prop := a < 0 ∨ nI n ≤ a
end
section
set_option maxRecDepth 100000
set_option maxHeartbeats 4000000 in
theorem met_bad_good {l : Launch} {D : va_G} {ad : Nat → Nat} {cA : Nat → ClassId} {fs ss : Nat} {la : Int32} {mem lin chg wrd : Nat → Int32} {rs : Int32} {j : Nat} (hj : j < 256) : xMi l yX1_bad cX1_bad 1 .boolean (rmF 0 0) D ad cA fs ss la mem lin chg wrd rs [.int (nI j)] (xKeep mem lin chg wrd rs (fun r => r = 0)) := by
  refine xMi_of rfl (by decide) (Nat.le_of_ble_eq_true rfl) (fun r _ _ _ _ _ h => by rw [h.1]; rfl) ?_
  intro p e s m args below meth c Q A H0 ls C I hl ret
  have hx := C.1.1
  have hb := C.1.2.1
  have hl : lv_has ls 1 [(0, .int (nI j))] := hl
  refine lv_iload_n hx hb dX1_bad_0 rfl (hc_g hl rfl) ?_
  refine lv_if_lt (tgt := 11) hx hb dX1_bad_1 (by decide) (fun c1 => ?_) (fun c1 => ?_)
  · exact absurd c1 (nI_pos (by omega))
  · refine lv_iload_n hx hb dX1_bad_4 rfl (hc_g hl rfl) ?_
    refine lv_sipush (v := nI 256) hx hb dX1_bad_5 (by decide) ?_
    refine lv_icmp_lt (tgt := 15) hx hb dX1_bad_8 (by decide) (fun c2 => ?_) (fun c2 => ?_)
    · refine lv_iconst (v := 0) hx hb dX1_bad_15 (by decide) ?_
      exact ret _ _ _ _ _ _ _ _ _ _ (⟨rfl, rfl, rfl, rfl, rfl, rfl⟩) I dX1_bad_16
    · exact absurd (nI_lt hj (by decide)) c2
set_option maxHeartbeats 4000000 in
theorem met_bad_bad {l : Launch} {D : va_G} {ad : Nat → Nat} {cA : Nat → ClassId} {fs ss : Nat} {la : Int32} {mem lin chg wrd : Nat → Int32} {rs : Int32} {a : Int32} (h : spBad a 256) : xMi l yX1_bad cX1_bad 1 .boolean (rmF 0 0) D ad cA fs ss la mem lin chg wrd rs [.int a] (xKeep mem lin chg wrd rs (fun r => r = 1)) := by
  refine xMi_of rfl (by decide) (Nat.le_of_ble_eq_true rfl) (fun r _ _ _ _ _ h => by rw [h.1]; rfl) ?_
  intro p e s m args below meth c Q A H0 ls C I hl ret
  have hx := C.1.1
  have hb := C.1.2.1
  have hl : lv_has ls 1 [(0, .int a)] := hl
  refine lv_iload_n hx hb dX1_bad_0 rfl (hc_g hl rfl) ?_
  refine lv_if_lt (tgt := 11) hx hb dX1_bad_1 (by decide) (fun c1 => ?_) (fun c1 => ?_)
  · refine lv_iconst (v := 1) hx hb dX1_bad_11 (by decide) ?_
    refine lv_goto (tgt := 16) hx hb dX1_bad_12 (by decide) ?_
    exact ret _ _ _ _ _ _ _ _ _ _ (⟨rfl, rfl, rfl, rfl, rfl, rfl⟩) I dX1_bad_16
  · refine lv_iload_n hx hb dX1_bad_4 rfl (hc_g hl rfl) ?_
    refine lv_sipush (v := nI 256) hx hb dX1_bad_5 (by decide) ?_
    refine lv_icmp_lt (tgt := 15) hx hb dX1_bad_8 (by decide) (fun c2 => ?_) (fun c2 => ?_)
    · exact absurd c2 (hx_ltle (Or.resolve_left h c1))
    · refine lv_iconst (v := 1) hx hb dX1_bad_11 (by decide) ?_
      refine lv_goto (tgt := 16) hx hb dX1_bad_12 (by decide) ?_
      exact ret _ _ _ _ _ _ _ _ _ _ (⟨rfl, rfl, rfl, rfl, rfl, rfl⟩) I dX1_bad_16
set_option maxHeartbeats 4000000 in
theorem met_firstPlace {l : Launch} {D : va_G} {ad : Nat → Nat} {cA : Nat → ClassId} {fs ss : Nat} {la : Int32} {mem lin chg wrd : Nat → Int32} {rs : Int32} {L : Nat} (hfs : fs < 2) (hL : L < 64) : xMi l yX1_firstPlace cX1_firstPlace 2 .int (rmF 0 0) D ad cA fs ss la mem lin chg wrd rs [.ref (ad 0), .int (nI L)] (xKeep mem lin chg wrd rs (fun r => r = nI (hf1 fs L))) := by
  refine xMi_of rfl (by decide) (Nat.le_of_ble_eq_true rfl) (fun _ _ _ _ _ _ _ => rfl) ?_
  intro p e s m args below meth c Q A H0 ls C I hl ret
  have hx := C.1.1
  have hb := C.1.2.1
  have hl : lv_has ls 2 [(0, .ref (ad 0)), (1, .int (nI L))] := hl
  refine lv_iconst (v := nI 2) hx hb dX1_firstPlace_0 (by decide) ?_
  refine lv_iload_n hx hb dX1_firstPlace_1 rfl (hc_g hl rfl) ?_
  refine lv_aload_n hx hb dX1_firstPlace_2 rfl (hc_g hl rfl) ?_
  refine xg_fs C I dX1_firstPlace_3 ?_
  refine lv_ishr hx hb dX1_firstPlace_6 ?_
  refine lv_iconst (v := nI 3) hx hb dX1_firstPlace_7 (by decide) ?_
  refine lv_iand hx hb dX1_firstPlace_8 ?_
  refine lv_imul hx hb dX1_firstPlace_9 ?_
  exact ret _ _ _ _ _ _ _ _ _ _ (⟨hx_f1 hfs hL, rfl, rfl, rfl, rfl, rfl⟩) I dX1_firstPlace_10
set_option maxHeartbeats 4000000 in
theorem met_secondPlace {l : Launch} {D : va_G} {ad : Nat → Nat} {cA : Nat → ClassId} {fs ss : Nat} {la : Int32} {mem lin chg wrd : Nat → Int32} {rs : Int32} {L : Nat} (hss : ss < 2) (hL : L < 64) : xMi l yX1_secondPlace cX1_secondPlace 2 .int (rmF 0 0) D ad cA fs ss la mem lin chg wrd rs [.ref (ad 0), .int (nI L)] (xKeep mem lin chg wrd rs (fun r => r = nI (hf2 ss L))) := by
  refine xMi_of rfl (by decide) (Nat.le_of_ble_eq_true rfl) (fun _ _ _ _ _ _ _ => rfl) ?_
  intro p e s m args below meth c Q A H0 ls C I hl ret
  have hx := C.1.1
  have hb := C.1.2.1
  have hl : lv_has ls 2 [(0, .ref (ad 0)), (1, .int (nI L))] := hl
  refine lv_bipush (v := nI 10) hx hb dX1_secondPlace_0 (by decide) ?_
  refine lv_iconst (v := nI 2) hx hb dX1_secondPlace_2 (by decide) ?_
  refine lv_iload_n hx hb dX1_secondPlace_3 rfl (hc_g hl rfl) ?_
  refine lv_aload_n hx hb dX1_secondPlace_4 rfl (hc_g hl rfl) ?_
  refine xg_ss C I dX1_secondPlace_5 ?_
  refine lv_ishr hx hb dX1_secondPlace_8 ?_
  refine lv_bipush (v := nI 7) hx hb dX1_secondPlace_9 (by decide) ?_
  refine lv_iand hx hb dX1_secondPlace_11 ?_
  refine lv_imul hx hb dX1_secondPlace_12 ?_
  refine lv_iadd hx hb dX1_secondPlace_13 ?_
  exact ret _ _ _ _ _ _ _ _ _ _ (⟨hx_f2 hss hL, rfl, rfl, rfl, rfl, rfl⟩) I dX1_secondPlace_14
set_option maxHeartbeats 4000000 in
theorem met_among {l : Launch} {D : va_G} {ad : Nat → Nat} {cA : Nat → ClassId} {fs ss : Nat} {la : Int32} {mem lin chg wrd : Nat → Int32} {rs : Int32} {f : Nat} {x : Int32} (hf : f + 1 < 26) : xMi l yX1_among cX1_among 3 .int (rmF 0 0) D ad cA fs ss la mem lin chg wrd rs [.ref (ad 0), .int (nI f), .int x] (xKeep mem lin chg wrd rs (fun r => hAm lin f x r)) := by
  refine xMi_of rfl (by decide) (Nat.le_of_ble_eq_true rfl) (fun _ _ _ _ _ _ _ => rfl) ?_
  intro p e s m args below meth c Q A H0 ls C I hl ret
  have hx := C.1.1
  have hb := C.1.2.1
  have hl : lv_has ls 3 [(0, .ref (ad 0)), (1, .int (nI f)), (2, .int x)] := hl
  refine lv_aload_n hx hb dX1_among_0 rfl (hc_g hl rfl) ?_
  refine xg_lin C I dX1_among_1 ?_
  refine lv_iload_n hx hb dX1_among_4 rfl (hc_g hl rfl) ?_
  refine xl_lin C I (by omega) dX1_among_5 ?_
  refine lv_iload_n hx hb dX1_among_6 rfl (hc_g hl rfl) ?_
  refine lv_icmp_ne (tgt := 12) hx hb dX1_among_7 (by decide) (fun c1 => ?_) (fun c1 => ?_)
  · refine lv_aload_n hx hb dX1_among_12 rfl (hc_g hl rfl) ?_
    refine xg_lin C I dX1_among_13 ?_
    refine lv_iload_n hx hb dX1_among_16 rfl (hc_g hl rfl) ?_
    refine lv_iconst (v := nI 1) hx hb dX1_among_17 (by decide) ?_
    refine hc_addN hx hb dX1_among_18 ?_
    refine xl_lin C I (by omega) dX1_among_19 ?_
    refine lv_iload_n hx hb dX1_among_20 rfl (hc_g hl rfl) ?_
    refine lv_icmp_ne (tgt := 30) hx hb dX1_among_21 (by decide) (fun c2 => ?_) (fun c2 => ?_)
    · refine lv_iconst (v := -1) hx hb dX1_among_30 (by decide) ?_
      exact ret _ _ _ _ _ _ _ _ _ _ (⟨Or.inr (Or.inr ⟨c1, c2, rfl⟩), rfl, rfl, rfl, rfl, rfl⟩) I dX1_among_31
    · refine lv_iload_n hx hb dX1_among_24 rfl (hc_g hl rfl) ?_
      refine lv_iconst (v := nI 1) hx hb dX1_among_25 (by decide) ?_
      refine hc_addN hx hb dX1_among_26 ?_
      refine lv_goto (tgt := 31) hx hb dX1_among_27 (by decide) ?_
      exact ret _ _ _ _ _ _ _ _ _ _ (⟨Or.inr (Or.inl ⟨c1, c2, rfl⟩), rfl, rfl, rfl, rfl, rfl⟩) I dX1_among_31
  · refine lv_iload_n hx hb dX1_among_10 rfl (hc_g hl rfl) ?_
    exact ret _ _ _ _ _ _ _ _ _ _ (⟨Or.inl ⟨c1, rfl⟩, rfl, rfl, rfl, rfl, rfl⟩) I dX1_among_11
set_option maxHeartbeats 4000000 in
theorem met_older {l : Launch} {D : va_G} {ad : Nat → Nat} {cA : Nat → ClassId} {fs ss : Nat} {la : Int32} {mem lin chg wrd : Nat → Int32} {rs : Int32} {f : Nat} (hf : f + 1 < 26) : xMi l yX1_older cX1_older 2 .int (rmF 0 0) D ad cA fs ss la mem lin chg wrd rs [.ref (ad 0), .int (nI f)] (xKeep mem lin chg wrd rs (fun r => ∃ t, r = nI t ∧ (t = f ∨ t = f + 1))) := by
  refine xMi_of rfl (by decide) (Nat.le_of_ble_eq_true rfl) (fun _ _ _ _ _ _ _ => rfl) ?_
  intro p e s m args below meth c Q A H0 ls C I hl ret
  have hx := C.1.1
  have hb := C.1.2.1
  have hl : lv_has ls 2 [(0, .ref (ad 0)), (1, .int (nI f))] := hl
  refine lv_aload_n hx hb dX1_older_0 rfl (hc_g hl rfl) ?_
  refine xg_lin C I dX1_older_1 ?_
  refine lv_iload_n hx hb dX1_older_4 rfl (hc_g hl rfl) ?_
  refine xl_lin C I (by omega) dX1_older_5 ?_
  refine lv_iconst (v := -1) hx hb dX1_older_6 (by decide) ?_
  refine lv_icmp_ne (tgt := 12) hx hb dX1_older_7 (by decide) (fun c1 => ?_) (fun c1 => ?_)
  · refine lv_aload_n hx hb dX1_older_12 rfl (hc_g hl rfl) ?_
    refine xg_lin C I dX1_older_13 ?_
    refine lv_iload_n hx hb dX1_older_16 rfl (hc_g hl rfl) ?_
    refine lv_iconst (v := nI 1) hx hb dX1_older_17 (by decide) ?_
    refine hc_addN hx hb dX1_older_18 ?_
    refine xl_lin C I (by omega) dX1_older_19 ?_
    refine lv_iconst (v := -1) hx hb dX1_older_20 (by decide) ?_
    refine lv_icmp_ne (tgt := 28) hx hb dX1_older_21 (by decide) (fun c2 => ?_) (fun c2 => ?_)
    · refine lv_aload_n hx hb dX1_older_28 rfl (hc_g hl rfl) ?_
      refine xg_usd C I dX1_older_29 ?_
      refine lv_iload_n hx hb dX1_older_32 rfl (hc_g hl rfl) ?_
      refine xl_usd C I (by omega) dX1_older_33 (fun v_1 => ?_)
      refine lv_aload_n hx hb dX1_older_34 rfl (hc_g hl rfl) ?_
      refine xg_usd C I dX1_older_35 ?_
      refine lv_iload_n hx hb dX1_older_38 rfl (hc_g hl rfl) ?_
      refine lv_iconst (v := nI 1) hx hb dX1_older_39 (by decide) ?_
      refine hc_addN hx hb dX1_older_40 ?_
      refine xl_usd C I (by omega) dX1_older_41 (fun v_2 => ?_)
      refine lv_icmp_gt (tgt := 49) hx hb dX1_older_42 (by decide) (fun c3 => ?_) (fun c3 => ?_)
      · refine lv_iload_n hx hb dX1_older_49 rfl (hc_g hl rfl) ?_
        refine lv_iconst (v := nI 1) hx hb dX1_older_50 (by decide) ?_
        refine hc_addN hx hb dX1_older_51 ?_
        exact ret _ _ _ _ _ _ _ _ _ _ (⟨⟨_, rfl, Or.inr rfl⟩, rfl, rfl, rfl, rfl, rfl⟩) I dX1_older_52
      · refine lv_iload_n hx hb dX1_older_45 rfl (hc_g hl rfl) ?_
        refine lv_goto (tgt := 52) hx hb dX1_older_46 (by decide) ?_
        exact ret _ _ _ _ _ _ _ _ _ _ (⟨⟨_, rfl, Or.inl rfl⟩, rfl, rfl, rfl, rfl, rfl⟩) I dX1_older_52
    · refine lv_iload_n hx hb dX1_older_24 rfl (hc_g hl rfl) ?_
      refine lv_iconst (v := nI 1) hx hb dX1_older_25 (by decide) ?_
      refine hc_addN hx hb dX1_older_26 ?_
      exact ret _ _ _ _ _ _ _ _ _ _ (⟨⟨_, rfl, Or.inr rfl⟩, rfl, rfl, rfl, rfl, rfl⟩) I dX1_older_27
  · refine lv_iload_n hx hb dX1_older_10 rfl (hc_g hl rfl) ?_
    exact ret _ _ _ _ _ _ _ _ _ _ (⟨⟨_, rfl, Or.inl rfl⟩, rfl, rfl, rfl, rfl, rfl⟩) I dX1_older_11
set_option maxHeartbeats 4000000 in
theorem met_touch {l : Launch} {D : va_G} {ad : Nat → Nat} {cA : Nat → ClassId} {fs ss : Nat} {la : Int32} {mem lin chg wrd : Nat → Int32} {rs : Int32} {t : Nat} (ht : t < 26) : xMv l yX1_touch cX1_touch 2 (rmF 0 0) D ad cA fs ss la mem lin chg wrd rs [.ref (ad 0), .int (nI t)] (fun a b c d f => mem = a ∧ lin = b ∧ chg = c ∧ wrd = d ∧ rs = f) := by
  refine xMv_of rfl (by decide) (Nat.le_of_ble_eq_true rfl) ?_
  intro p e s m args below meth c Q A H0 ls C I hl ret
  have hx := C.1.1
  have hb := C.1.2.1
  have hl : lv_has ls 2 [(0, .ref (ad 0)), (1, .int (nI t))] := hl
  refine lv_aload_n hx hb dX1_touch_0 rfl (hc_g hl rfl) ?_
  refine lv_dup hx hb dX1_touch_1 rfl ?_
  refine xg_clk C I dX1_touch_2 (fun v_1 => ?_)
  refine lv_iconst (v := nI 1) hx hb dX1_touch_5 (by decide) ?_
  refine lv_iadd hx hb dX1_touch_6 ?_
  refine xp_clk C I dX1_touch_7 (fun H locs I => ?_)
  refine lv_aload_n hx hb dX1_touch_10 rfl (hc_g hl rfl) ?_
  refine xg_usd C I dX1_touch_11 ?_
  refine lv_iload_n hx hb dX1_touch_14 rfl (hc_g hl rfl) ?_
  refine lv_aload_n hx hb dX1_touch_15 rfl (hc_g hl rfl) ?_
  refine xg_clk C I dX1_touch_16 (fun v_2 => ?_)
  refine xs_usd C I (by omega) dX1_touch_19 (fun H locs I => ?_)
  exact ret _ _ _ _ _ _ _ _ _ (⟨rfl, rfl, rfl, rfl, rfl⟩) I dX1_touch_20
set_option maxHeartbeats 4000000 in
theorem met_moveLine {l : Launch} {D : va_G} {ad : Nat → Nat} {cA : Nat → ClassId} {fs ss : Nat} {la : Int32} {mem lin chg wrd : Nat → Int32} {rs : Int32} {f t : Nat} (hf : f < 26) (ht : t < 26) (hne : f ≠ t) (h01 : chg f = 0 ∨ chg f = 1) : xMv l yX1_moveLine cX1_moveLine 4 (rmF 1 21) D ad cA fs ss la mem lin chg wrd rs [.ref (ad 0), .int (nI f), .int (nI t)] (fun a b c d g => mem = a ∧ upd (upd lin t (lin f)) f (-1) = b ∧ upd (upd chg t (chg f)) f 0 = c ∧ h4 wrd wrd t f 4 = d ∧ rs = g) := by
  refine xMv_of rfl (by decide) (Nat.le_of_ble_eq_true rfl) ?_
  intro p e s m args below meth c Q A H0 ls C I hl ret
  have hx := C.1.1
  have hb := C.1.2.1
  have hl : lv_has ls 4 [(0, .ref (ad 0)), (1, .int (nI f)), (2, .int (nI t))] := hl
  refine lv_aload_n hx hb dX1_moveLine_0 rfl (hc_g hl rfl) ?_
  refine xg_lin C I dX1_moveLine_1 ?_
  refine lv_iload_n hx hb dX1_moveLine_4 rfl (hc_g hl rfl) ?_
  refine lv_aload_n hx hb dX1_moveLine_5 rfl (hc_g hl rfl) ?_
  refine xg_lin C I dX1_moveLine_6 ?_
  refine lv_iload_n hx hb dX1_moveLine_9 rfl (hc_g hl rfl) ?_
  refine xl_lin C I (by omega) dX1_moveLine_10 ?_
  refine xs_lin C I (by omega) dX1_moveLine_11 (fun H locs I => ?_)
  refine lv_aload_n hx hb dX1_moveLine_12 rfl (hc_g hl rfl) ?_
  refine xg_chg C I dX1_moveLine_13 ?_
  refine lv_iload_n hx hb dX1_moveLine_16 rfl (hc_g hl rfl) ?_
  refine lv_aload_n hx hb dX1_moveLine_17 rfl (hc_g hl rfl) ?_
  refine xg_chg C I dX1_moveLine_18 ?_
  refine lv_iload_n hx hb dX1_moveLine_21 rfl (hc_g hl rfl) ?_
  refine xl_chg C I (by omega) dX1_moveLine_22 ?_
  refine xs_chg C I (by omega) h01 dX1_moveLine_23 (fun H locs I => ?_)
  refine lv_iconst (v := nI 0) hx hb dX1_moveLine_24 (by decide) ?_
  refine lv_istore_n (lv' := [(3, .int (nI 0)), (0, .ref (ad 0)), (1, .int (nI f)), (2, .int (nI t))]) hx hb dX1_moveLine_25 rfl hl (by decide) rfl (fun ls hl => ?_)
  refine hc_loop (S := Unit) (fun i _ H locs ls => xI D A H0 ad cA fs ss la mem (upd lin t (lin f)) (upd chg t (chg f)) (h4 wrd wrd t f i) rs H locs ∧ lv_has ls 4 [(3, .int (nI i)), (0, .ref (ad 0)), (1, .int (nI f)), (2, .int (nI t))]) 4 (fun i _ H locs ls hi hI back => ?_) 0 () _ _ _ (Nat.zero_le _) ⟨by rw [h4_0]; exact I, lv_sub hl [0, 1, 2, 3] rfl⟩
  obtain ⟨I, hl⟩ := hI
  refine lv_iload_n hx hb dX1_moveLine_26 rfl (hc_g hl rfl) ?_
  refine lv_iconst (v := nI 4) hx hb dX1_moveLine_27 (by decide) ?_
  refine lv_icmp_ge (tgt := 57) hx hb dX1_moveLine_28 (by decide) (fun c => ?_) (fun c => ?_)
  · have hie : i = 4 := Nat.le_antisymm hi ((nI_leI (by omega) (by omega)).mp c)
    subst hie
    refine lv_aload_n hx hb dX1_moveLine_57 rfl (hc_g hl rfl) ?_
    refine xg_lin C I dX1_moveLine_58 ?_
    refine lv_iload_n hx hb dX1_moveLine_61 rfl (hc_g hl rfl) ?_
    refine lv_iconst (v := -1) hx hb dX1_moveLine_62 (by decide) ?_
    refine xs_lin C I (by omega) dX1_moveLine_63 (fun H locs I => ?_)
    refine lv_aload_n hx hb dX1_moveLine_64 rfl (hc_g hl rfl) ?_
    refine xg_chg C I dX1_moveLine_65 ?_
    refine lv_iload_n hx hb dX1_moveLine_68 rfl (hc_g hl rfl) ?_
    refine lv_iconst (v := 0) hx hb dX1_moveLine_69 (by decide) ?_
    refine xs_chg C I (by omega) (by first | exact Or.inl rfl | exact Or.inr rfl) dX1_moveLine_70 (fun H locs I => ?_)
    refine lv_aload_n hx hb dX1_moveLine_71 rfl (hc_g hl rfl) ?_
    refine lv_iload_n hx hb dX1_moveLine_72 rfl (hc_g hl rfl) ?_
    refine x_callv [.int (nI t)] (rest := []) C I hl.1 (met_touch ht) (xw_touch C.1.2.2.2.2 rfl rfl ⟨by decide, by decide⟩) rfl rfl (Nat.le_of_ble_eq_true rfl) dX1_moveLine_73 (fun mem_1 lin_1 chg_1 wrd_1 rs_1 H locs hp I => ?_)
    obtain ⟨rfl, rfl, rfl, rfl, rfl⟩ := hp
    exact ret _ _ _ _ _ _ _ _ _ (⟨rfl, rfl, rfl, rfl, rfl⟩) I dX1_moveLine_76
  · have hlt : i < 4 := Nat.lt_of_not_le (fun h => c (nI_le h (by omega)))
    refine lv_aload_n hx hb dX1_moveLine_31 rfl (hc_g hl rfl) ?_
    refine xg_wrd C I dX1_moveLine_32 ?_
    refine lv_iload_n hx hb dX1_moveLine_35 rfl (hc_g hl rfl) ?_
    refine lv_iconst (v := nI 4) hx hb dX1_moveLine_36 (by decide) ?_
    refine hc_mulN hx hb dX1_moveLine_37 ?_
    refine lv_iload_n hx hb dX1_moveLine_38 rfl (hc_g hl rfl) ?_
    refine hc_addN hx hb dX1_moveLine_39 ?_
    refine lv_aload_n hx hb dX1_moveLine_40 rfl (hc_g hl rfl) ?_
    refine xg_wrd C I dX1_moveLine_41 ?_
    refine lv_iload_n hx hb dX1_moveLine_44 rfl (hc_g hl rfl) ?_
    refine lv_iconst (v := nI 4) hx hb dX1_moveLine_45 (by decide) ?_
    refine hc_mulN hx hb dX1_moveLine_46 ?_
    refine lv_iload_n hx hb dX1_moveLine_47 rfl (hc_g hl rfl) ?_
    refine hc_addN hx hb dX1_moveLine_48 ?_
    refine xl_wrd C I (by omega) dX1_moveLine_49 ?_
    refine xs_wrd C I (by omega) dX1_moveLine_50 (fun H locs I => ?_)
    refine lv_iinc (v := nI (i + 1)) (lv' := [(3, .int (nI (i + 1))), (0, .ref (ad 0)), (1, .int (nI f)), (2, .int (nI t))]) hx hb dX1_moveLine_51 hl (k := 0) rfl (nI_1 _) (by decide) rfl (fun ls hl => ?_)
    refine lv_goto (tgt := 26) hx hb dX1_moveLine_54 (by decide) ?_
    exact back hlt () _ _ _ ⟨by rw [← h4_s' wrd t f i hne hlt]; exact I, lv_sub hl [0, 1, 2, 3] rfl⟩
set_option maxHeartbeats 4000000 in
theorem met_writeBack {l : Launch} {D : va_G} {ad : Nat → Nat} {cA : Nat → ClassId} {fs ss : Nat} {la : Int32} {mem lin chg wrd : Nat → Int32} {rs : Int32} {M : Nat → Int32} {q : Nat} (h : hInv fs ss M mem lin chg wrd) (hp : q < 26) : xMv l yX1_writeBack cX1_writeBack 3 (rmF 0 0) D ad cA fs ss la mem lin chg wrd rs [.ref (ad 0), .int (nI q)] (fun a b c d f => lin = b ∧ upd chg q 0 = c ∧ wrd = d ∧ rs = f ∧ hInv fs ss M a lin (upd chg q 0) wrd) := by
  refine xMv_of rfl (by decide) (Nat.le_of_ble_eq_true rfl) ?_
  intro p e s m args below meth c Q A H0 ls C I hl ret
  have hx := C.1.1
  have hb := C.1.2.1
  have hl : lv_has ls 3 [(0, .ref (ad 0)), (1, .int (nI q))] := hl
  refine lv_aload_n hx hb dX1_writeBack_0 rfl (hc_g hl rfl) ?_
  refine xg_lin C I dX1_writeBack_1 ?_
  refine lv_iload_n hx hb dX1_writeBack_4 rfl (hc_g hl rfl) ?_
  refine xl_lin C I (by omega) dX1_writeBack_5 ?_
  refine lv_iconst (v := -1) hx hb dX1_writeBack_6 (by decide) ?_
  refine lv_icmp_eq (tgt := 57) hx hb dX1_writeBack_7 (by decide) (fun c1 => ?_) (fun c1 => ?_)
  · refine lv_aload_n hx hb dX1_writeBack_57 rfl (hc_g hl rfl) ?_
    refine xg_chg C I dX1_writeBack_58 ?_
    refine lv_iload_n hx hb dX1_writeBack_61 rfl (hc_g hl rfl) ?_
    refine lv_iconst (v := 0) hx hb dX1_writeBack_62 (by decide) ?_
    refine xs_chg C I (by omega) (by first | exact Or.inl rfl | exact Or.inr rfl) dX1_writeBack_63 (fun H locs I => ?_)
    exact ret _ _ _ _ _ _ _ _ _ (⟨rfl, rfl, rfl, rfl, h.clean hp (Or.inl c1)⟩) I dX1_writeBack_64
  · refine lv_aload_n hx hb dX1_writeBack_10 rfl (hc_g hl rfl) ?_
    refine xg_chg C I dX1_writeBack_11 ?_
    refine lv_iload_n hx hb dX1_writeBack_14 rfl (hc_g hl rfl) ?_
    refine xl_chg C I (by omega) dX1_writeBack_15 ?_
    refine lv_if_eq (tgt := 57) hx hb dX1_writeBack_16 (by decide) (fun c2 => ?_) (fun c2 => ?_)
    · refine lv_aload_n hx hb dX1_writeBack_57 rfl (hc_g hl rfl) ?_
      refine xg_chg C I dX1_writeBack_58 ?_
      refine lv_iload_n hx hb dX1_writeBack_61 rfl (hc_g hl rfl) ?_
      refine lv_iconst (v := 0) hx hb dX1_writeBack_62 (by decide) ?_
      refine xs_chg C I (by omega) (by first | exact Or.inl rfl | exact Or.inr rfl) dX1_writeBack_63 (fun H locs I => ?_)
      exact ret _ _ _ _ _ _ _ _ _ (⟨rfl, rfl, rfl, rfl, h.clean hp (Or.inr c2)⟩) I dX1_writeBack_64
    · obtain ⟨L, hL, hlL, -, -⟩ := h.ofl hp c1
      refine lv_iconst (v := nI 0) hx hb dX1_writeBack_19 (by decide) ?_
      refine lv_istore_n (lv' := [(2, .int (nI 0)), (0, .ref (ad 0)), (1, .int (nI q))]) hx hb dX1_writeBack_20 rfl hl (by decide) rfl (fun ls hl => ?_)
      refine hc_loop (S := Unit) (fun i _ H locs ls => xI D A H0 ad cA fs ss la (h4 mem wrd L q i) lin chg wrd rs H locs ∧ lv_has ls 3 [(2, .int (nI i)), (0, .ref (ad 0)), (1, .int (nI q))]) 4 (fun i _ H locs ls hi hI back => ?_) 0 () _ _ _ (Nat.zero_le _) ⟨by rw [h4_0]; exact I, lv_sub hl [0, 1, 2] rfl⟩
      obtain ⟨I, hl⟩ := hI
      refine lv_iload_n hx hb dX1_writeBack_21 rfl (hc_g hl rfl) ?_
      refine lv_iconst (v := nI 4) hx hb dX1_writeBack_22 (by decide) ?_
      refine lv_icmp_ge (tgt := 57) hx hb dX1_writeBack_23 (by decide) (fun c3 => ?_) (fun c3 => ?_)
      · have hie : i = 4 := Nat.le_antisymm hi ((nI_leI (by omega) (by omega)).mp c3)
        subst hie
        refine lv_aload_n hx hb dX1_writeBack_57 rfl (hc_g hl rfl) ?_
        refine xg_chg C I dX1_writeBack_58 ?_
        refine lv_iload_n hx hb dX1_writeBack_61 rfl (hc_g hl rfl) ?_
        refine lv_iconst (v := 0) hx hb dX1_writeBack_62 (by decide) ?_
        refine xs_chg C I (by omega) (by first | exact Or.inl rfl | exact Or.inr rfl) dX1_writeBack_63 (fun H locs I => ?_)
        exact ret _ _ _ _ _ _ _ _ _ (⟨rfl, rfl, rfl, rfl, h.back hp hL hlL⟩) I dX1_writeBack_64
      · have hlt : i < 4 := Nat.lt_of_not_le (fun h => c3 (nI_le h (by omega)))
        refine lv_aload_n hx hb dX1_writeBack_26 rfl (hc_g hl rfl) ?_
        refine xg_mem C I dX1_writeBack_27 ?_
        refine lv_aload_n hx hb dX1_writeBack_30 rfl (hc_g hl rfl) ?_
        refine xg_lin C I dX1_writeBack_31 ?_
        refine lv_iload_n hx hb dX1_writeBack_34 rfl (hc_g hl rfl) ?_
        refine xl_lin C I (by omega) dX1_writeBack_35 ?_
        refine hc_re (nI L) (hlL) ?_
        refine lv_iconst (v := nI 4) hx hb dX1_writeBack_36 (by decide) ?_
        refine hc_mulN hx hb dX1_writeBack_37 ?_
        refine lv_iload_n hx hb dX1_writeBack_38 rfl (hc_g hl rfl) ?_
        refine hc_addN hx hb dX1_writeBack_39 ?_
        refine lv_aload_n hx hb dX1_writeBack_40 rfl (hc_g hl rfl) ?_
        refine xg_wrd C I dX1_writeBack_41 ?_
        refine lv_iload_n hx hb dX1_writeBack_44 rfl (hc_g hl rfl) ?_
        refine lv_iconst (v := nI 4) hx hb dX1_writeBack_45 (by decide) ?_
        refine hc_mulN hx hb dX1_writeBack_46 ?_
        refine lv_iload_n hx hb dX1_writeBack_47 rfl (hc_g hl rfl) ?_
        refine hc_addN hx hb dX1_writeBack_48 ?_
        refine xl_wrd C I (by omega) dX1_writeBack_49 ?_
        refine xs_mem C I (by omega) dX1_writeBack_50 (fun H locs I => ?_)
        refine lv_iinc (v := nI (i + 1)) (lv' := [(2, .int (nI (i + 1))), (0, .ref (ad 0)), (1, .int (nI q))]) hx hb dX1_writeBack_51 hl (k := 0) rfl (nI_1 _) (by decide) rfl (fun ls hl => ?_)
        refine lv_goto (tgt := 21) hx hb dX1_writeBack_54 (by decide) ?_
        exact back hlt () _ _ _ ⟨by rw [← h4_s]; exact I, lv_sub hl [0, 1, 2] rfl⟩
set_option maxHeartbeats 4000000 in
theorem met_readIn {l : Launch} {D : va_G} {ad : Nat → Nat} {cA : Nat → ClassId} {fs ss : Nat} {la : Int32} {mem lin chg wrd : Nat → Int32} {rs : Int32} {q L : Nat} (hp : q < 26) (hL : L < 64) : xMv l yX1_readIn cX1_readIn 4 (rmF 1 21) D ad cA fs ss la mem lin chg wrd rs [.ref (ad 0), .int (nI q), .int (nI L)] (fun a b c d f => mem = a ∧ upd lin q (nI L) = b ∧ upd chg q 0 = c ∧ h4 wrd mem q L 4 = d ∧ rs = f) := by
  refine xMv_of rfl (by decide) (Nat.le_of_ble_eq_true rfl) ?_
  intro p e s m args below meth c Q A H0 ls C I hl ret
  have hx := C.1.1
  have hb := C.1.2.1
  have hl : lv_has ls 4 [(0, .ref (ad 0)), (1, .int (nI q)), (2, .int (nI L))] := hl
  refine lv_aload_n hx hb dX1_readIn_0 rfl (hc_g hl rfl) ?_
  refine xg_lin C I dX1_readIn_1 ?_
  refine lv_iload_n hx hb dX1_readIn_4 rfl (hc_g hl rfl) ?_
  refine lv_iload_n hx hb dX1_readIn_5 rfl (hc_g hl rfl) ?_
  refine xs_lin C I (by omega) dX1_readIn_6 (fun H locs I => ?_)
  refine lv_aload_n hx hb dX1_readIn_7 rfl (hc_g hl rfl) ?_
  refine xg_chg C I dX1_readIn_8 ?_
  refine lv_iload_n hx hb dX1_readIn_11 rfl (hc_g hl rfl) ?_
  refine lv_iconst (v := 0) hx hb dX1_readIn_12 (by decide) ?_
  refine xs_chg C I (by omega) (by first | exact Or.inl rfl | exact Or.inr rfl) dX1_readIn_13 (fun H locs I => ?_)
  refine lv_iconst (v := nI 0) hx hb dX1_readIn_14 (by decide) ?_
  refine lv_istore_n (lv' := [(3, .int (nI 0)), (0, .ref (ad 0)), (1, .int (nI q)), (2, .int (nI L))]) hx hb dX1_readIn_15 rfl hl (by decide) rfl (fun ls hl => ?_)
  refine hc_loop (S := Unit) (fun i _ H locs ls => xI D A H0 ad cA fs ss la mem (upd lin q (nI L)) (upd chg q (0)) (h4 wrd mem q L i) rs H locs ∧ lv_has ls 4 [(3, .int (nI i)), (0, .ref (ad 0)), (1, .int (nI q)), (2, .int (nI L))]) 4 (fun i _ H locs ls hi hI back => ?_) 0 () _ _ _ (Nat.zero_le _) ⟨by rw [h4_0]; exact I, lv_sub hl [0, 1, 2, 3] rfl⟩
  obtain ⟨I, hl⟩ := hI
  refine lv_iload_n hx hb dX1_readIn_16 rfl (hc_g hl rfl) ?_
  refine lv_iconst (v := nI 4) hx hb dX1_readIn_17 (by decide) ?_
  refine lv_icmp_ge (tgt := 47) hx hb dX1_readIn_18 (by decide) (fun c => ?_) (fun c => ?_)
  · have hie : i = 4 := Nat.le_antisymm hi ((nI_leI (by omega) (by omega)).mp c)
    subst hie
    refine lv_aload_n hx hb dX1_readIn_47 rfl (hc_g hl rfl) ?_
    refine lv_iload_n hx hb dX1_readIn_48 rfl (hc_g hl rfl) ?_
    refine x_callv [.int (nI q)] (rest := []) C I hl.1 (met_touch hp) (xw_touch C.1.2.2.2.2 rfl rfl ⟨by decide, by decide⟩) rfl rfl (Nat.le_of_ble_eq_true rfl) dX1_readIn_49 (fun mem_1 lin_1 chg_1 wrd_1 rs_1 H locs hp1 I => ?_)
    obtain ⟨rfl, rfl, rfl, rfl, rfl⟩ := hp1
    exact ret _ _ _ _ _ _ _ _ _ (⟨rfl, rfl, rfl, rfl, rfl⟩) I dX1_readIn_52
  · have hlt : i < 4 := Nat.lt_of_not_le (fun h => c (nI_le h (by omega)))
    refine lv_aload_n hx hb dX1_readIn_21 rfl (hc_g hl rfl) ?_
    refine xg_wrd C I dX1_readIn_22 ?_
    refine lv_iload_n hx hb dX1_readIn_25 rfl (hc_g hl rfl) ?_
    refine lv_iconst (v := nI 4) hx hb dX1_readIn_26 (by decide) ?_
    refine hc_mulN hx hb dX1_readIn_27 ?_
    refine lv_iload_n hx hb dX1_readIn_28 rfl (hc_g hl rfl) ?_
    refine hc_addN hx hb dX1_readIn_29 ?_
    refine lv_aload_n hx hb dX1_readIn_30 rfl (hc_g hl rfl) ?_
    refine xg_mem C I dX1_readIn_31 ?_
    refine lv_iload_n hx hb dX1_readIn_34 rfl (hc_g hl rfl) ?_
    refine lv_iconst (v := nI 4) hx hb dX1_readIn_35 (by decide) ?_
    refine hc_mulN hx hb dX1_readIn_36 ?_
    refine lv_iload_n hx hb dX1_readIn_37 rfl (hc_g hl rfl) ?_
    refine hc_addN hx hb dX1_readIn_38 ?_
    refine xl_mem C I (by omega) dX1_readIn_39 ?_
    refine xs_wrd C I (by omega) dX1_readIn_40 (fun H locs I => ?_)
    refine lv_iinc (v := nI (i + 1)) (lv' := [(3, .int (nI (i + 1))), (0, .ref (ad 0)), (1, .int (nI q)), (2, .int (nI L))]) hx hb dX1_readIn_41 hl (k := 0) rfl (nI_1 _) (by decide) rfl (fun ls hl => ?_)
    refine lv_goto (tgt := 16) hx hb dX1_readIn_44 (by decide) ?_
    exact back hlt () _ _ _ ⟨by rw [← h4_s]; exact I, lv_sub hl [0, 1, 2, 3] rfl⟩
end
section
set_option maxRecDepth 100000
/-! where a line may be, and what the searches answer -/
theorem hOk1 {fs ss t L : Nat} (h : t = hf1 fs L ∨ t = hf1 fs L + 1) : hOk fs ss t L := by
  rcases h with h | h
  · exact Or.inl h
  · exact Or.inr (Or.inl h)
theorem hOkB {fs ss t L : Nat} (h : t = 8 ∨ t = 8 + 1) : hOk fs ss t L := by
  rcases h with h | h
  · exact Or.inr (Or.inr (Or.inl h))
  · exact Or.inr (Or.inr (Or.inr (Or.inl h)))
theorem hOk2 {fs ss t L : Nat} (h : t = hf2 ss L ∨ t = hf2 ss L + 1) : hOk fs ss t L := by
  rcases h with h | h
  · exact Or.inr (Or.inr (Or.inr (Or.inr (Or.inl h))))
  · exact Or.inr (Or.inr (Or.inr (Or.inr (Or.inr h))))
theorem hLow.of1 {lin : Nat → Int32} {g : Nat} {x r : Int32} (h : hAm lin 8 x r) (hr : ¬ r < 0) : hLow lin g x r := by
  obtain ⟨q, e, hq, hl⟩ := h.pos hr
  exact Or.inr ⟨q, e, by omega, hl⟩
theorem hLow.of2 {lin : Nat → Int32} {g : Nat} {x r : Int32} (n1 : lin 8 ≠ x) (n2 : lin (8 + 1) ≠ x) (h : hAm lin g x r) : hLow lin g x r := by
  rcases h with ⟨a, e⟩ | ⟨-, a, e⟩ | ⟨a, b, e⟩
  · exact Or.inr ⟨g, e, by omega, a⟩
  · exact Or.inr ⟨g + 1, e, by omega, a⟩
  · exact Or.inl ⟨e, n1, n2, a, b⟩
theorem hAm.found {lin : Nat → Int32} {f t : Nat} {x r : Int32} (h : hAm lin f x r) (ht : t = f ∨ t = f + 1) (hl : lin t = x) : ∃ q, r = nI q ∧ (q = f ∨ q = f + 1) ∧ lin q = x := by
  rcases h with ⟨a, e⟩ | ⟨-, a, e⟩ | ⟨a, b, -⟩
  · exact ⟨f, e, Or.inl rfl, a⟩
  · exact ⟨f + 1, e, Or.inr rfl, a⟩
  · exfalso
    rcases ht with z | z
    · subst z; exact a hl
    · subst z; exact b hl
def hAny (lin : Nat → Int32) (x r : Int32) : Prop := (r = -1 ∧ ∀ q, q < 26 → lin q ≠ x) ∨ ∃ q, r = nI q ∧ q < 26 ∧ lin q = x
theorem hAny.neg {lin : Nat → Int32} {x r : Int32} (h : hAny lin x r) (hr : r < 0) : ∀ q, q < 26 → lin q ≠ x := by
  rcases h with ⟨-, h⟩ | ⟨q, e, hq, -⟩
  · exact h
  · rw [e] at hr; exact absurd hr (nI_pos (by omega))
theorem hAny.pos {lin : Nat → Int32} {x r : Int32} (h : hAny lin x r) (hr : ¬ r < 0) : ∃ q, r = nI q ∧ q < 26 ∧ lin q = x := by
  rcases h with ⟨e, -⟩ | h
  · rw [e] at hr; exact absurd (by decide) hr
  · exact h
theorem hAny.of1 {lin : Nat → Int32} {fs L : Nat} {x r : Int32} (h : hAm lin (hf1 fs L) x r) (hr : ¬ r < 0) : hAny lin x r := by
  obtain ⟨q, e, hq, hl⟩ := h.pos hr
  have := hf1_lt fs L
  exact Or.inr ⟨q, e, by omega, hl⟩
theorem hAny.of2 {fs ss L : Nat} {M mem lin chg wrd : Nat → Int32} {r r2 : Int32} (hI : hInv fs ss M mem lin chg wrd) (hL : L < 64) (h : hAm lin (hf1 fs L) (nI L) r) (hr : r < 0) (h2 : hLow lin (hf2 ss L) (nI L) r2) : hAny lin (nI L) r2 := by
  have g1 := hf1_lt fs L
  have g2 := hf2_lt ss L
  obtain ⟨n1, n2, -⟩ := h.neg (by omega) hr
  rcases h2 with ⟨e, n3, n4, n5, n6⟩ | ⟨q, e, hq, hl⟩
  · exact Or.inl ⟨e, hI.no hL n1 n2 n3 n4 n5 n6⟩
  · exact Or.inr ⟨q, e, by omega, hl⟩
def sp_kill (rs a : Int32) : Int32 := if rs = a then -1 else rs
theorem sp_kill_eq {rs a : Int32} (h : rs = a) : sp_kill rs a = -1 := if_pos h
theorem sp_kill_ne {rs a : Int32} (h : ¬ rs = a) : sp_kill rs a = rs := if_neg h
/-- dropped: the line is nowhere -/
theorem hInv.gone {fs ss : Nat} {M mem lin chg wrd : Nat → Int32} (h : hInv fs ss M mem lin chg wrd) {q L : Nat} (hq : q < 26) (hL : L < 64) (hl : lin q = nI L) : ∀ p, p < 26 → upd lin q (-1) p ≠ nI L := by
  intro p hp e
  by_cases z : p = q
  · subst z; rw [hu_s] at e; exact hn_m1 hL e.symm
  · rw [hu_n z] at e; exact z (h.2.1 p q L hp hq hL e hl)
end
section
set_option maxRecDepth 100000
set_option maxHeartbeats 4000000 in
theorem met_sinkToSecond {l : Launch} {D : va_G} {ad : Nat → Nat} {cA : Nat → ClassId} {fs ss : Nat} {la : Int32} {mem lin chg wrd : Nat → Int32} {rs : Int32} {M : Nat → Int32} {q : Nat} (hss : ss < 2) (h : hInv fs ss M mem lin chg wrd) (hq : q < 10) (hn : lin q ≠ -1) : xMv l yX1_sinkToSecond cX1_sinkToSecond 4 (rmF 2 44) D ad cA fs ss la mem lin chg wrd rs [.ref (ad 0), .int (nI q)] (fun a b c d f => hInv fs ss M a b c d ∧ b q = -1 ∧ (∀ z, z < 10 → z ≠ q → b z = lin z) ∧ rs = f) := by
  refine xMv_of rfl (by decide) (Nat.le_of_ble_eq_true rfl) ?_
  intro p e s m args below meth c Q A H0 ls C I hl ret
  have hx := C.1.1
  have hb := C.1.2.1
  have hl : lv_has ls 4 [(0, .ref (ad 0)), (1, .int (nI q))] := hl
  obtain ⟨L, hL, hlL, -, -⟩ := h.ofl (by omega) hn
  refine lv_aload_n hx hb dX1_sinkToSecond_0 rfl (hc_g hl rfl) ?_
  refine lv_aload_n hx hb dX1_sinkToSecond_1 rfl (hc_g hl rfl) ?_
  refine xg_lin C I dX1_sinkToSecond_2 ?_
  refine lv_iload_n hx hb dX1_sinkToSecond_5 rfl (hc_g hl rfl) ?_
  refine xl_lin C I (by omega) dX1_sinkToSecond_6 ?_
  refine hc_re (nI L) (hlL) ?_
  refine x_callr [.int (nI L)] (rest := []) C I hl.1 (met_secondPlace hss hL) (xw_secondPlace C.1.2.2.2.2 rfl rfl ⟨by decide, by decide⟩) rfl rfl (Nat.le_of_ble_eq_true rfl) dX1_sinkToSecond_7 (fun r_1 H locs hr_1 I => ?_)
  subst hr_1
  refine lv_istore_n (lv' := [(2, .int (nI (hf2 ss L))), (0, .ref (ad 0)), (1, .int (nI q))]) hx hb dX1_sinkToSecond_10 rfl hl (by decide) rfl (fun ls hl => ?_)
  refine lv_aload_n hx hb dX1_sinkToSecond_11 rfl (hc_g hl rfl) ?_
  refine lv_iload_n hx hb dX1_sinkToSecond_12 rfl (hc_g hl rfl) ?_
  refine x_callr [.int (nI (hf2 ss L))] (rest := []) C I hl.1 (met_older (hf2_lt ss L)) (xw_older C.1.2.2.2.2 rfl rfl ⟨by decide, by decide⟩) rfl rfl (Nat.le_of_ble_eq_true rfl) dX1_sinkToSecond_13 (fun r_2 H locs hr_2 I => ?_)
  obtain ⟨t, rfl, ht⟩ := hr_2
  have ht26 : t < 26 ∧ 10 ≤ t := by have := hf2_lt ss L; have := hf2_ge ss L; omega
  refine lv_istore_n (lv' := [(3, .int (nI t)), (2, .int (nI (hf2 ss L))), (0, .ref (ad 0)), (1, .int (nI q))]) hx hb dX1_sinkToSecond_16 rfl hl (by decide) rfl (fun ls hl => ?_)
  refine lv_aload_n hx hb dX1_sinkToSecond_17 rfl (hc_g hl rfl) ?_
  refine lv_iload_n hx hb dX1_sinkToSecond_18 rfl (hc_g hl rfl) ?_
  refine x_callv [.int (nI t)] (rest := []) C I hl.1 (met_writeBack h ht26.1) (xw_writeBack C.1.2.2.2.2 rfl rfl ⟨by decide, by decide⟩) rfl rfl (Nat.le_of_ble_eq_true rfl) dX1_sinkToSecond_19 (fun mem_1 lin_1 chg_1 wrd_1 rs_1 H locs hp I => ?_)
  obtain ⟨rfl, rfl, rfl, rfl, h1⟩ := hp
  refine lv_aload_n hx hb dX1_sinkToSecond_22 rfl (hc_g hl rfl) ?_
  refine lv_iload_n hx hb dX1_sinkToSecond_23 rfl (hc_g hl rfl) ?_
  refine lv_iload_n hx hb dX1_sinkToSecond_24 rfl (hc_g hl rfl) ?_
  refine x_callv [.int (nI q), .int (nI t)] (rest := []) C I hl.1 (met_moveLine (by omega) ht26.1 (by omega) (h1.2.2.2 q (by omega))) (xw_moveLine C.1.2.2.2.2 rfl rfl ⟨by decide, by decide⟩) rfl rfl (Nat.le_of_ble_eq_true rfl) dX1_sinkToSecond_25 (fun mem_2 lin_2 chg_2 wrd_2 rs_2 H locs hp I => ?_)
  obtain ⟨rfl, rfl, rfl, rfl, rfl⟩ := hp
  exact ret _ _ _ _ _ _ _ _ _ (⟨h1.move (by omega) ht26.1 (by omega) hL hlL (hOk2 ht) (Or.inr hu_s), hu_s, fun p hp hne => by rw [hu_n hne, hu_n (by omega)], rfl⟩) I dX1_sinkToSecond_28
set_option maxHeartbeats 4000000 in
theorem met_sinkToBuffer {l : Launch} {D : va_G} {ad : Nat → Nat} {cA : Nat → ClassId} {fs ss : Nat} {la : Int32} {mem lin chg wrd : Nat → Int32} {rs : Int32} {M : Nat → Int32} {q : Nat} (hss : ss < 2) (h : hInv fs ss M mem lin chg wrd) (hq : q < 8) (hn : lin q ≠ -1) : xMv l yX1_sinkToBuffer cX1_sinkToBuffer 3 (rmF 3 67) D ad cA fs ss la mem lin chg wrd rs [.ref (ad 0), .int (nI q)] (fun a b c d f => hInv fs ss M a b c d ∧ b q = -1 ∧ (∀ z, z < 8 → z ≠ q → b z = lin z) ∧ rs = f) := by
  refine xMv_of rfl (by decide) (Nat.le_of_ble_eq_true rfl) ?_
  intro p e s m args below meth c Q A H0 ls C I hl ret
  have hx := C.1.1
  have hb := C.1.2.1
  have hl : lv_has ls 3 [(0, .ref (ad 0)), (1, .int (nI q))] := hl
  obtain ⟨L, hL, hlL, -, -⟩ := h.ofl (by omega) hn
  refine lv_aload_n hx hb dX1_sinkToBuffer_0 rfl (hc_g hl rfl) ?_
  refine lv_bipush (v := nI 8) hx hb dX1_sinkToBuffer_1 (by decide) ?_
  refine x_callr [.int (nI 8)] (rest := []) C I hl.1 (met_older (f := 8) (by decide)) (xw_older C.1.2.2.2.2 rfl rfl ⟨by decide, by decide⟩) rfl rfl (Nat.le_of_ble_eq_true rfl) dX1_sinkToBuffer_3 (fun r_1 H locs hr_1 I => ?_)
  obtain ⟨t, rfl, ht⟩ := hr_1
  refine lv_istore_n (lv' := [(2, .int (nI t)), (0, .ref (ad 0)), (1, .int (nI q))]) hx hb dX1_sinkToBuffer_6 rfl hl (by decide) rfl (fun ls hl => ?_)
  refine lv_aload_n hx hb dX1_sinkToBuffer_7 rfl (hc_g hl rfl) ?_
  refine xg_lin C I dX1_sinkToBuffer_8 ?_
  refine lv_iload_n hx hb dX1_sinkToBuffer_11 rfl (hc_g hl rfl) ?_
  refine xl_lin C I (by omega) dX1_sinkToBuffer_12 ?_
  refine lv_iconst (v := -1) hx hb dX1_sinkToBuffer_13 (by decide) ?_
  refine lv_icmp_eq (tgt := 22) hx hb dX1_sinkToBuffer_14 (by decide) (fun c1 => ?_) (fun c1 => ?_)
  · refine lv_aload_n hx hb dX1_sinkToBuffer_22 rfl (hc_g hl rfl) ?_
    refine lv_iload_n hx hb dX1_sinkToBuffer_23 rfl (hc_g hl rfl) ?_
    refine lv_iload_n hx hb dX1_sinkToBuffer_24 rfl (hc_g hl rfl) ?_
    refine x_callv [.int (nI q), .int (nI t)] (rest := []) C I hl.1 (met_moveLine (by omega) (by omega) (by omega) (h.2.2.2 q (by omega))) (xw_moveLine C.1.2.2.2.2 rfl rfl ⟨by decide, by decide⟩) rfl rfl (Nat.le_of_ble_eq_true rfl) dX1_sinkToBuffer_25 (fun mem_2 lin_2 chg_2 wrd_2 rs_2 H locs hp I => ?_)
    obtain ⟨rfl, rfl, rfl, rfl, rfl⟩ := hp
    exact ret _ _ _ _ _ _ _ _ _ (⟨h.move (by omega) (by omega) (by omega) hL hlL (hOkB ht) (Or.inl c1), hu_s, fun p hp hne => by rw [hu_n hne, hu_n (by omega)], rfl⟩) I dX1_sinkToBuffer_28
  · refine lv_aload_n hx hb dX1_sinkToBuffer_17 rfl (hc_g hl rfl) ?_
    refine lv_iload_n hx hb dX1_sinkToBuffer_18 rfl (hc_g hl rfl) ?_
    refine x_callv [.int (nI t)] (rest := []) C I hl.1 (met_sinkToSecond hss h (by omega) c1) (xw_sinkToSecond C.1.2.2.2.2 rfl rfl ⟨by decide, by decide⟩) rfl rfl (Nat.le_of_ble_eq_true rfl) dX1_sinkToBuffer_19 (fun mem_1 lin_1 chg_1 wrd_1 rs_1 H locs hp I => ?_)
    obtain ⟨h1, e1, e2, rfl⟩ := hp
    have e3 := (e2 q (by omega) (by omega)).trans hlL
    refine lv_aload_n hx hb dX1_sinkToBuffer_22 rfl (hc_g hl rfl) ?_
    refine lv_iload_n hx hb dX1_sinkToBuffer_23 rfl (hc_g hl rfl) ?_
    refine lv_iload_n hx hb dX1_sinkToBuffer_24 rfl (hc_g hl rfl) ?_
    refine x_callv [.int (nI q), .int (nI t)] (rest := []) C I hl.1 (met_moveLine (by omega) (by omega) (by omega) (h1.2.2.2 q (by omega))) (xw_moveLine C.1.2.2.2.2 rfl rfl ⟨by decide, by decide⟩) rfl rfl (Nat.le_of_ble_eq_true rfl) dX1_sinkToBuffer_25 (fun mem_2 lin_2 chg_2 wrd_2 rs_2 H locs hp I => ?_)
    obtain ⟨rfl, rfl, rfl, rfl, rfl⟩ := hp
    exact ret _ _ _ _ _ _ _ _ _ (⟨h1.move (by omega) (by omega) (by omega) hL e3 (hOkB ht) (Or.inl e1), hu_s, fun p hp hne => by rw [hu_n hne, hu_n (by omega)]; exact e2 p (by omega) (by omega), rfl⟩) I dX1_sinkToBuffer_28
set_option maxHeartbeats 4000000 in
theorem met_makeRoom {l : Launch} {D : va_G} {ad : Nat → Nat} {cA : Nat → ClassId} {fs ss : Nat} {la : Int32} {mem lin chg wrd : Nat → Int32} {rs : Int32} {M : Nat → Int32} {L : Nat} (hfs : fs < 2) (hss : ss < 2) (h : hInv fs ss M mem lin chg wrd) (hL : L < 64) : xMi l yX1_makeRoom cX1_makeRoom 4 .int (rmF 4 89) D ad cA fs ss la mem lin chg wrd rs [.ref (ad 0), .int (nI L)] (fun r a b c d f => ∃ t, r = nI t ∧ (t = hf1 fs L ∨ t = hf1 fs L + 1) ∧ hInv fs ss M a b c d ∧ b t = -1 ∧ (∀ z, z < 8 → z ≠ t → b z = lin z) ∧ rs = f) := by
  refine xMi_of rfl (by decide) (Nat.le_of_ble_eq_true rfl) (fun _ _ _ _ _ _ _ => rfl) ?_
  intro p e s m args below meth c Q A H0 ls C I hl ret
  have hx := C.1.1
  have hb := C.1.2.1
  have hl : lv_has ls 4 [(0, .ref (ad 0)), (1, .int (nI L))] := hl
  have g1 := hf1_lt fs L
  refine lv_aload_n hx hb dX1_makeRoom_0 rfl (hc_g hl rfl) ?_
  refine lv_iload_n hx hb dX1_makeRoom_1 rfl (hc_g hl rfl) ?_
  refine x_callr [.int (nI L)] (rest := []) C I hl.1 (met_firstPlace hfs hL) (xw_firstPlace C.1.2.2.2.2 rfl rfl ⟨by decide, by decide⟩) rfl rfl (Nat.le_of_ble_eq_true rfl) dX1_makeRoom_2 (fun r_1 H locs hr_1 I => ?_)
  subst hr_1
  refine lv_istore_n (lv' := [(2, .int (nI (hf1 fs L))), (0, .ref (ad 0)), (1, .int (nI L))]) hx hb dX1_makeRoom_5 rfl hl (by decide) rfl (fun ls hl => ?_)
  refine lv_aload_n hx hb dX1_makeRoom_6 rfl (hc_g hl rfl) ?_
  refine lv_iload_n hx hb dX1_makeRoom_7 rfl (hc_g hl rfl) ?_
  refine x_callr [.int (nI (hf1 fs L))] (rest := []) C I hl.1 (met_older (by omega)) (xw_older C.1.2.2.2.2 rfl rfl ⟨by decide, by decide⟩) rfl rfl (Nat.le_of_ble_eq_true rfl) dX1_makeRoom_8 (fun r_2 H locs hr_2 I => ?_)
  obtain ⟨t, rfl, ht⟩ := hr_2
  refine lv_istore_n (lv' := [(3, .int (nI t)), (2, .int (nI (hf1 fs L))), (0, .ref (ad 0)), (1, .int (nI L))]) hx hb dX1_makeRoom_11 rfl hl (by decide) rfl (fun ls hl => ?_)
  refine lv_aload_n hx hb dX1_makeRoom_12 rfl (hc_g hl rfl) ?_
  refine xg_lin C I dX1_makeRoom_13 ?_
  refine lv_iload_n hx hb dX1_makeRoom_16 rfl (hc_g hl rfl) ?_
  refine xl_lin C I (by omega) dX1_makeRoom_17 ?_
  refine lv_iconst (v := -1) hx hb dX1_makeRoom_18 (by decide) ?_
  refine lv_icmp_eq (tgt := 27) hx hb dX1_makeRoom_19 (by decide) (fun c1 => ?_) (fun c1 => ?_)
  · refine lv_iload_n hx hb dX1_makeRoom_27 rfl (hc_g hl rfl) ?_
    exact ret _ _ _ _ _ _ _ _ _ _ (⟨t, rfl, ht, h, c1, fun p hp hne => rfl, rfl⟩) I dX1_makeRoom_28
  · refine lv_aload_n hx hb dX1_makeRoom_22 rfl (hc_g hl rfl) ?_
    refine lv_iload_n hx hb dX1_makeRoom_23 rfl (hc_g hl rfl) ?_
    refine x_callv [.int (nI t)] (rest := []) C I hl.1 (met_sinkToBuffer hss h (by omega) c1) (xw_sinkToBuffer C.1.2.2.2.2 rfl rfl ⟨by decide, by decide⟩) rfl rfl (Nat.le_of_ble_eq_true rfl) dX1_makeRoom_24 (fun mem_1 lin_1 chg_1 wrd_1 rs_1 H locs hp I => ?_)
    obtain ⟨h1, e1, e2, rfl⟩ := hp
    refine lv_iload_n hx hb dX1_makeRoom_27 rfl (hc_g hl rfl) ?_
    exact ret _ _ _ _ _ _ _ _ _ _ (⟨t, rfl, ht, h1, e1, e2, rfl⟩) I dX1_makeRoom_28
set_option maxHeartbeats 4000000 in
theorem met_lowerPlace {l : Launch} {D : va_G} {ad : Nat → Nat} {cA : Nat → ClassId} {fs ss : Nat} {la : Int32} {mem lin chg wrd : Nat → Int32} {rs : Int32} {L : Nat} (hss : ss < 2) (hL : L < 64) : xMi l yX1_lowerPlace cX1_lowerPlace 4 .int (rmF 1 22) D ad cA fs ss la mem lin chg wrd rs [.ref (ad 0), .int (nI L)] (xKeep mem lin chg wrd rs (fun r => hLow lin (hf2 ss L) (nI L) r)) := by
  refine xMi_of rfl (by decide) (Nat.le_of_ble_eq_true rfl) (fun _ _ _ _ _ _ _ => rfl) ?_
  intro p e s m args below meth c Q A H0 ls C I hl ret
  have hx := C.1.1
  have hb := C.1.2.1
  have hl : lv_has ls 4 [(0, .ref (ad 0)), (1, .int (nI L))] := hl
  refine lv_aload_n hx hb dX1_lowerPlace_0 rfl (hc_g hl rfl) ?_
  refine lv_bipush (v := nI 8) hx hb dX1_lowerPlace_1 (by decide) ?_
  refine lv_iload_n hx hb dX1_lowerPlace_3 rfl (hc_g hl rfl) ?_
  refine x_callr [.int (nI 8), .int (nI L)] (rest := []) C I hl.1 (met_among (f := 8) (by decide)) (xw_among C.1.2.2.2.2 rfl rfl ⟨by decide, by decide⟩) rfl rfl (Nat.le_of_ble_eq_true rfl) dX1_lowerPlace_4 (fun r_1 H locs hr_1 I => ?_)
  refine lv_istore_n (lv' := [(2, .int r_1), (0, .ref (ad 0)), (1, .int (nI L))]) hx hb dX1_lowerPlace_7 rfl hl (by decide) rfl (fun ls hl => ?_)
  refine lv_aload_n hx hb dX1_lowerPlace_8 rfl (hc_g hl rfl) ?_
  refine lv_iload_n hx hb dX1_lowerPlace_9 rfl (hc_g hl rfl) ?_
  refine x_callr [.int (nI L)] (rest := []) C I hl.1 (met_secondPlace hss hL) (xw_secondPlace C.1.2.2.2.2 rfl rfl ⟨by decide, by decide⟩) rfl rfl (Nat.le_of_ble_eq_true rfl) dX1_lowerPlace_10 (fun r_2 H locs hr_2 I => ?_)
  subst hr_2
  refine lv_istore_n (lv' := [(3, .int (nI (hf2 ss L))), (2, .int r_1), (0, .ref (ad 0)), (1, .int (nI L))]) hx hb dX1_lowerPlace_13 rfl hl (by decide) rfl (fun ls hl => ?_)
  refine lv_iload_n hx hb dX1_lowerPlace_14 rfl (hc_g hl rfl) ?_
  refine lv_if_lt (tgt := 22) hx hb dX1_lowerPlace_15 (by decide) (fun c1 => ?_) (fun c1 => ?_)
  · obtain ⟨n1, n2, -⟩ := hr_1.neg (by decide) c1
    refine lv_aload_n hx hb dX1_lowerPlace_22 rfl (hc_g hl rfl) ?_
    refine lv_iload_n hx hb dX1_lowerPlace_23 rfl (hc_g hl rfl) ?_
    refine lv_iload_n hx hb dX1_lowerPlace_24 rfl (hc_g hl rfl) ?_
    refine x_callr [.int (nI (hf2 ss L)), .int (nI L)] (rest := []) C I hl.1 (met_among (hf2_lt ss L)) (xw_among C.1.2.2.2.2 rfl rfl ⟨by decide, by decide⟩) rfl rfl (Nat.le_of_ble_eq_true rfl) dX1_lowerPlace_25 (fun r_3 H locs hr_3 I => ?_)
    exact ret _ _ _ _ _ _ _ _ _ _ (⟨hLow.of2 n1 n2 hr_3, rfl, rfl, rfl, rfl, rfl⟩) I dX1_lowerPlace_28
  · refine lv_iload_n hx hb dX1_lowerPlace_18 rfl (hc_g hl rfl) ?_
    refine lv_goto (tgt := 28) hx hb dX1_lowerPlace_19 (by decide) ?_
    exact ret _ _ _ _ _ _ _ _ _ _ (⟨hLow.of1 hr_1 c1, rfl, rfl, rfl, rfl, rfl⟩) I dX1_lowerPlace_28
set_option maxHeartbeats 4000000 in
theorem met_fetchAhead {l : Launch} {D : va_G} {ad : Nat → Nat} {cA : Nat → ClassId} {fs ss : Nat} {la : Int32} {mem lin chg wrd : Nat → Int32} {rs : Int32} {M : Nat → Int32} {L : Nat} (hfs : fs < 2) (hss : ss < 2) (h : hInv fs ss M mem lin chg wrd) (hL4 : L ≤ 64) : xMv l yX1_fetchAhead cX1_fetchAhead 7 (rmF 2 45) D ad cA fs ss la mem lin chg wrd rs [.ref (ad 0), .int (nI L)] (fun a b c d f => hInv fs ss M a b c d ∧ (∀ z, z < 8 → b z = lin z) ∧ rs = f) := by
  refine xMv_of rfl (by decide) (Nat.le_of_ble_eq_true rfl) ?_
  intro p e s m args below meth c Q A H0 ls C I hl ret
  have hx := C.1.1
  have hb := C.1.2.1
  have hl : lv_has ls 7 [(0, .ref (ad 0)), (1, .int (nI L))] := hl
  have g1 := hf1_lt fs L
  have g2 := hf2_lt ss L
  have g3 := hf2_ge ss L
  refine lv_iload_n hx hb dX1_fetchAhead_0 rfl (hc_g hl rfl) ?_
  refine lv_bipush (v := nI 64) hx hb dX1_fetchAhead_1 (by decide) ?_
  refine lv_icmp_lt (tgt := 7) hx hb dX1_fetchAhead_3 (by decide) (fun c1 => ?_) (fun c1 => ?_)
  · have hL : L < 64 := (nI_ltI (by omega) (by omega)).mp c1
    refine lv_aload_n hx hb dX1_fetchAhead_7 rfl (hc_g hl rfl) ?_
    refine lv_iload_n hx hb dX1_fetchAhead_8 rfl (hc_g hl rfl) ?_
    refine x_callr [.int (nI L)] (rest := []) C I hl.1 (met_firstPlace hfs hL) (xw_firstPlace C.1.2.2.2.2 rfl rfl ⟨by decide, by decide⟩) rfl rfl (Nat.le_of_ble_eq_true rfl) dX1_fetchAhead_9 (fun r_1 H locs hr_1 I => ?_)
    subst hr_1
    refine lv_istore_n (lv' := [(2, .int (nI (hf1 fs L))), (0, .ref (ad 0)), (1, .int (nI L))]) hx hb dX1_fetchAhead_12 rfl hl (by decide) rfl (fun ls hl => ?_)
    refine lv_aload_n hx hb dX1_fetchAhead_13 rfl (hc_g hl rfl) ?_
    refine lv_iload_n hx hb dX1_fetchAhead_14 rfl (hc_g hl rfl) ?_
    refine lv_iload_n hx hb dX1_fetchAhead_15 rfl (hc_g hl rfl) ?_
    refine x_callr [.int (nI (hf1 fs L)), .int (nI L)] (rest := []) C I hl.1 (met_among (by omega)) (xw_among C.1.2.2.2.2 rfl rfl ⟨by decide, by decide⟩) rfl rfl (Nat.le_of_ble_eq_true rfl) dX1_fetchAhead_16 (fun r_2 H locs hr_2 I => ?_)
    refine lv_istore_n (lv' := [(3, .int r_2), (2, .int (nI (hf1 fs L))), (0, .ref (ad 0)), (1, .int (nI L))]) hx hb dX1_fetchAhead_19 rfl hl (by decide) rfl (fun ls hl => ?_)
    refine lv_aload_n hx hb dX1_fetchAhead_20 rfl (hc_g hl rfl) ?_
    refine lv_iload_n hx hb dX1_fetchAhead_21 rfl (hc_g hl rfl) ?_
    refine x_callr [.int (nI L)] (rest := []) C I hl.1 (met_lowerPlace hss hL) (xw_lowerPlace C.1.2.2.2.2 rfl rfl ⟨by decide, by decide⟩) rfl rfl (Nat.le_of_ble_eq_true rfl) dX1_fetchAhead_22 (fun r_3 H locs hr_3 I => ?_)
    refine lv_istore (lv' := [(4, .int r_3), (3, .int r_2), (2, .int (nI (hf1 fs L))), (0, .ref (ad 0)), (1, .int (nI L))]) hx hb dX1_fetchAhead_25 hl (by decide) rfl (fun ls hl => ?_)
    refine lv_iload_n hx hb dX1_fetchAhead_27 rfl (hc_g hl rfl) ?_
    refine lv_if_ge (tgt := 36) hx hb dX1_fetchAhead_28 (by decide) (fun c2 => ?_) (fun c2 => ?_)
    · exact ret _ _ _ _ _ _ _ _ _ (⟨h, fun _ _ => rfl, rfl⟩) I dX1_fetchAhead_36
    · refine lv_iload hx hb dX1_fetchAhead_31 (hc_g hl rfl) ?_
      refine lv_if_lt (tgt := 37) hx hb dX1_fetchAhead_33 (by decide) (fun c3 => ?_) (fun c3 => ?_)
      · obtain ⟨n1, n2, -⟩ := hr_2.neg (by omega) (hx_nlt c2)
        obtain ⟨n3, n4, n5, n6⟩ := hr_3.neg (by omega) c3
        have hno := h.no hL n1 n2 n3 n4 n5 n6
        refine lv_aload_n hx hb dX1_fetchAhead_37 rfl (hc_g hl rfl) ?_
        refine lv_iload_n hx hb dX1_fetchAhead_38 rfl (hc_g hl rfl) ?_
        refine x_callr [.int (nI L)] (rest := []) C I hl.1 (met_secondPlace hss hL) (xw_secondPlace C.1.2.2.2.2 rfl rfl ⟨by decide, by decide⟩) rfl rfl (Nat.le_of_ble_eq_true rfl) dX1_fetchAhead_39 (fun r_4 H locs hr_4 I => ?_)
        subst hr_4
        refine lv_istore (lv' := [(5, .int (nI (hf2 ss L))), (4, .int r_3), (3, .int r_2), (2, .int (nI (hf1 fs L))), (0, .ref (ad 0)), (1, .int (nI L))]) hx hb dX1_fetchAhead_42 hl (by decide) rfl (fun ls hl => ?_)
        refine lv_aload_n hx hb dX1_fetchAhead_44 rfl (hc_g hl rfl) ?_
        refine lv_iload hx hb dX1_fetchAhead_45 (hc_g hl rfl) ?_
        refine x_callr [.int (nI (hf2 ss L))] (rest := []) C I hl.1 (met_older (by omega)) (xw_older C.1.2.2.2.2 rfl rfl ⟨by decide, by decide⟩) rfl rfl (Nat.le_of_ble_eq_true rfl) dX1_fetchAhead_47 (fun r_5 H locs hr_5 I => ?_)
        obtain ⟨t, rfl, ht⟩ := hr_5
        refine lv_istore (lv' := [(6, .int (nI t)), (5, .int (nI (hf2 ss L))), (4, .int r_3), (3, .int r_2), (2, .int (nI (hf1 fs L))), (0, .ref (ad 0)), (1, .int (nI L))]) hx hb dX1_fetchAhead_50 hl (by decide) rfl (fun ls hl => ?_)
        refine lv_aload_n hx hb dX1_fetchAhead_52 rfl (hc_g hl rfl) ?_
        refine lv_iload hx hb dX1_fetchAhead_53 (hc_g hl rfl) ?_
        refine x_callv [.int (nI t)] (rest := []) C I hl.1 (met_writeBack h (by omega)) (xw_writeBack C.1.2.2.2.2 rfl rfl ⟨by decide, by decide⟩) rfl rfl (Nat.le_of_ble_eq_true rfl) dX1_fetchAhead_55 (fun mem_1 lin_1 chg_1 wrd_1 rs_1 H locs hp I => ?_)
        obtain ⟨rfl, rfl, rfl, rfl, h1⟩ := hp
        refine lv_aload_n hx hb dX1_fetchAhead_58 rfl (hc_g hl rfl) ?_
        refine lv_iload hx hb dX1_fetchAhead_59 (hc_g hl rfl) ?_
        refine lv_iload_n hx hb dX1_fetchAhead_61 rfl (hc_g hl rfl) ?_
        refine x_callv [.int (nI t), .int (nI L)] (rest := []) C I hl.1 (met_readIn (by omega) hL) (xw_readIn C.1.2.2.2.2 rfl rfl ⟨by decide, by decide⟩) rfl rfl (Nat.le_of_ble_eq_true rfl) dX1_fetchAhead_62 (fun mem_2 lin_2 chg_2 wrd_2 rs_2 H locs hp I => ?_)
        obtain ⟨rfl, rfl, rfl, rfl, rfl⟩ := hp
        exact ret _ _ _ _ _ _ _ _ _ (⟨h1.rd (by omega) hL (Or.inr hu_s) hno (hOk2 ht), fun z hz => hu_n (by omega), rfl⟩) I dX1_fetchAhead_65
      · exact ret _ _ _ _ _ _ _ _ _ (⟨h, fun _ _ => rfl, rfl⟩) I dX1_fetchAhead_36
  · exact ret _ _ _ _ _ _ _ _ _ (⟨h, fun _ _ => rfl, rfl⟩) I dX1_fetchAhead_6
set_option maxHeartbeats 4000000 in
theorem met_bring {l : Launch} {D : va_G} {ad : Nat → Nat} {cA : Nat → ClassId} {fs ss : Nat} {la : Int32} {mem lin chg wrd : Nat → Int32} {rs : Int32} {M : Nat → Int32} {L : Nat} (hfs : fs < 2) (hss : ss < 2) (h : hInv fs ss M mem lin chg wrd) (hL : L < 64) : xMi l yX1_bring cX1_bring 6 .int (rmF 5 112) D ad cA fs ss la mem lin chg wrd rs [.ref (ad 0), .int (nI L)] (fun r a b c d f => ∃ t, r = nI t ∧ t < 26 ∧ b t = nI L ∧ hInv fs ss M a b c d ∧ rs = f) := by
  refine xMi_of rfl (by decide) (Nat.le_of_ble_eq_true rfl) (fun _ _ _ _ _ _ _ => rfl) ?_
  intro p e s m args below meth c Q A H0 ls C I hl ret
  have hx := C.1.1
  have hb := C.1.2.1
  have hl : lv_has ls 6 [(0, .ref (ad 0)), (1, .int (nI L))] := hl
  have g1 := hf1_lt fs L
  have g2 := hf2_lt ss L
  have g3 := hf2_ge ss L
  refine lv_aload_n hx hb dX1_bring_0 rfl (hc_g hl rfl) ?_
  refine lv_iload_n hx hb dX1_bring_1 rfl (hc_g hl rfl) ?_
  refine x_callr [.int (nI L)] (rest := []) C I hl.1 (met_firstPlace hfs hL) (xw_firstPlace C.1.2.2.2.2 rfl rfl ⟨by decide, by decide⟩) rfl rfl (Nat.le_of_ble_eq_true rfl) dX1_bring_2 (fun r_1 H locs hr_1 I => ?_)
  subst hr_1
  refine lv_istore_n (lv' := [(2, .int (nI (hf1 fs L))), (0, .ref (ad 0)), (1, .int (nI L))]) hx hb dX1_bring_5 rfl hl (by decide) rfl (fun ls hl => ?_)
  refine lv_aload_n hx hb dX1_bring_6 rfl (hc_g hl rfl) ?_
  refine lv_iload_n hx hb dX1_bring_7 rfl (hc_g hl rfl) ?_
  refine lv_iload_n hx hb dX1_bring_8 rfl (hc_g hl rfl) ?_
  refine x_callr [.int (nI (hf1 fs L)), .int (nI L)] (rest := []) C I hl.1 (met_among (by omega)) (xw_among C.1.2.2.2.2 rfl rfl ⟨by decide, by decide⟩) rfl rfl (Nat.le_of_ble_eq_true rfl) dX1_bring_9 (fun r_3 H locs hr_3 I => ?_)
  refine lv_istore_n (lv' := [(3, .int r_3), (2, .int (nI (hf1 fs L))), (0, .ref (ad 0)), (1, .int (nI L))]) hx hb dX1_bring_12 rfl hl (by decide) rfl (fun ls hl => ?_)
  refine lv_iload_n hx hb dX1_bring_13 rfl (hc_g hl rfl) ?_
  refine lv_if_lt (tgt := 24) hx hb dX1_bring_14 (by decide) (fun c1 => ?_) (fun c1 => ?_)
  · obtain ⟨n1, n2, -⟩ := hr_3.neg (by omega) c1
    refine lv_aload_n hx hb dX1_bring_24 rfl (hc_g hl rfl) ?_
    refine lv_iload_n hx hb dX1_bring_25 rfl (hc_g hl rfl) ?_
    refine x_calli [.int (nI L)] (rest := []) C I hl.1 (met_makeRoom hfs hss h hL) (xw_makeRoom C.1.2.2.2.2 rfl rfl ⟨by decide, by decide⟩) rfl rfl (Nat.le_of_ble_eq_true rfl) dX1_bring_26 (fun r_1 mem_1 lin_1 chg_1 wrd_1 rs_1 H locs hp I => ?_)
    obtain ⟨t, rfl, ht, h1, e1, e2, rfl⟩ := hp
    have nn : ∀ z, z < 8 → lin z ≠ nI L → lin_1 z ≠ nI L := fun z hz hne => by
      by_cases hzt : z = t
      · rw [hzt, e1]; exact (hn_m1 hL).symm
      · rw [e2 z hz hzt]; exact hne
    refine lv_istore (lv' := [(4, .int (nI t)), (3, .int r_3), (2, .int (nI (hf1 fs L))), (0, .ref (ad 0)), (1, .int (nI L))]) hx hb dX1_bring_29 hl (by decide) rfl (fun ls hl => ?_)
    refine lv_aload_n hx hb dX1_bring_31 rfl (hc_g hl rfl) ?_
    refine lv_iload_n hx hb dX1_bring_32 rfl (hc_g hl rfl) ?_
    refine x_callr [.int (nI L)] (rest := []) C I hl.1 (met_lowerPlace hss hL) (xw_lowerPlace C.1.2.2.2.2 rfl rfl ⟨by decide, by decide⟩) rfl rfl (Nat.le_of_ble_eq_true rfl) dX1_bring_33 (fun r_5 H locs hr_5 I => ?_)
    refine lv_istore (lv' := [(5, .int r_5), (4, .int (nI t)), (3, .int r_3), (2, .int (nI (hf1 fs L))), (0, .ref (ad 0)), (1, .int (nI L))]) hx hb dX1_bring_36 hl (by decide) rfl (fun ls hl => ?_)
    have t90 : ∀ (mem' lin' chg' wrd' : Nat → Int32) (H : Heap) (locs : List Loc), hInv fs ss M mem' lin' chg' wrd' → lin' t = nI L → xI D A H0 ad cA fs ss la mem' lin' chg' wrd' rs H locs → W p l e (rmF 5 112) s m args below meth c H locs 0 0 Q (F0 m 90 ls []) := by
      intro mem' lin' chg' wrd' H locs h2 e3 I
      refine lv_aload_n hx hb dX1_bring_90 rfl (hc_g hl rfl) ?_
      refine lv_iload_n hx hb dX1_bring_91 rfl (hc_g hl rfl) ?_
      refine xp_lm C I dX1_bring_92 (fun H locs I => ?_)
      refine lv_aload_n hx hb dX1_bring_95 rfl (hc_g hl rfl) ?_
      refine lv_iload_n hx hb dX1_bring_96 rfl (hc_g hl rfl) ?_
      refine lv_iload_n hx hb dX1_bring_97 rfl (hc_g hl rfl) ?_
      refine x_callr [.int (nI (hf1 fs L)), .int (nI L)] (rest := []) C I hl.1 (met_among (by omega)) (xw_among C.1.2.2.2.2 rfl rfl ⟨by decide, by decide⟩) rfl rfl (Nat.le_of_ble_eq_true rfl) dX1_bring_98 (fun r_9 H locs hr_9 I => ?_)
      obtain ⟨z, rfl, hz, hlz⟩ := hr_9.found ht e3
      exact ret _ _ _ _ _ _ _ _ _ _ (⟨z, rfl, by omega, hlz, h2, rfl⟩) I dX1_bring_101
    have t61 : ∀ (mem' lin' chg' wrd' : Nat → Int32) (H : Heap) (locs : List Loc), hInv fs ss M mem' lin' chg' wrd' → lin' t = nI L → xI D A H0 ad cA fs ss la mem' lin' chg' wrd' rs H locs → W p l e (rmF 5 112) s m args below meth c H locs 0 0 Q (F0 m 61 ls []) := by
      intro mem' lin' chg' wrd' H locs h2 e3 I
      refine lv_aload_n hx hb dX1_bring_61 rfl (hc_g hl rfl) ?_
      refine xg_la C I dX1_bring_62 ?_
      refine lv_if_eq (tgt := 90) hx hb dX1_bring_65 (by decide) (fun c3 => ?_) (fun c3 => ?_)
      · exact t90 _ _ _ _ _ _ h2 e3 I
      · refine lv_iload hx hb dX1_bring_68 (hc_g hl rfl) ?_
        refine lv_if_ge (tgt := 90) hx hb dX1_bring_70 (by decide) (fun c4 => ?_) (fun c4 => ?_)
        · exact t90 _ _ _ _ _ _ h2 e3 I
        · refine lv_iload_n hx hb dX1_bring_73 rfl (hc_g hl rfl) ?_
          refine lv_aload_n hx hb dX1_bring_74 rfl (hc_g hl rfl) ?_
          refine xg_lm C I dX1_bring_75 (fun v_1 => ?_)
          refine lv_iconst (v := nI 1) hx hb dX1_bring_78 (by decide) ?_
          refine lv_iadd hx hb dX1_bring_79 ?_
          refine lv_icmp_ne (tgt := 90) hx hb dX1_bring_80 (by decide) (fun c5 => ?_) (fun c5 => ?_)
          · exact t90 _ _ _ _ _ _ h2 e3 I
          · refine lv_aload_n hx hb dX1_bring_83 rfl (hc_g hl rfl) ?_
            refine lv_iload_n hx hb dX1_bring_84 rfl (hc_g hl rfl) ?_
            refine lv_iconst (v := nI 1) hx hb dX1_bring_85 (by decide) ?_
            refine hc_addN hx hb dX1_bring_86 ?_
            refine x_callv [.int (nI (L + 1))] (rest := []) C I hl.1 (met_fetchAhead hfs hss h2 (by omega)) (xw_fetchAhead C.1.2.2.2.2 rfl rfl ⟨by decide, by decide⟩) rfl rfl (Nat.le_of_ble_eq_true rfl) dX1_bring_87 (fun mem_7 lin_7 chg_7 wrd_7 rs_7 H locs hp I => ?_)
            obtain ⟨h3, e4, rfl⟩ := hp
            exact t90 _ _ _ _ _ _ h3 (by rw [e4 t (by omega)]; exact e3) I
    refine lv_iload hx hb dX1_bring_38 (hc_g hl rfl) ?_
    refine lv_if_lt (tgt := 54) hx hb dX1_bring_40 (by decide) (fun c2 => ?_) (fun c2 => ?_)
    · obtain ⟨n3, n4, n5, n6⟩ := hr_5.neg (by omega) c2
      have hno := h1.no hL (nn _ (by omega) n1) (nn _ (by omega) n2) n3 n4 n5 n6
      refine lv_aload_n hx hb dX1_bring_54 rfl (hc_g hl rfl) ?_
      refine lv_iload hx hb dX1_bring_55 (hc_g hl rfl) ?_
      refine lv_iload_n hx hb dX1_bring_57 rfl (hc_g hl rfl) ?_
      refine x_callv [.int (nI t), .int (nI L)] (rest := []) C I hl.1 (met_readIn (by omega) hL) (xw_readIn C.1.2.2.2.2 rfl rfl ⟨by decide, by decide⟩) rfl rfl (Nat.le_of_ble_eq_true rfl) dX1_bring_58 (fun mem_6 lin_6 chg_6 wrd_6 rs_6 H locs hp I => ?_)
      obtain ⟨rfl, rfl, rfl, rfl, rfl⟩ := hp
      exact t61 _ _ _ _ _ _ (h1.rd (by omega) hL (Or.inl e1) hno (hOk1 ht)) hu_s I
    · obtain ⟨q, rfl, hq, hlq⟩ := hr_5.pos c2
      refine lv_aload_n hx hb dX1_bring_43 rfl (hc_g hl rfl) ?_
      refine lv_iload hx hb dX1_bring_44 (hc_g hl rfl) ?_
      refine lv_iload hx hb dX1_bring_46 (hc_g hl rfl) ?_
      refine x_callv [.int (nI q), .int (nI t)] (rest := []) C I hl.1 (met_moveLine (by omega) (by omega) (by omega) (h1.2.2.2 q (by omega))) (xw_moveLine C.1.2.2.2.2 rfl rfl ⟨by decide, by decide⟩) rfl rfl (Nat.le_of_ble_eq_true rfl) dX1_bring_48 (fun mem_6 lin_6 chg_6 wrd_6 rs_6 H locs hp I => ?_)
      obtain ⟨rfl, rfl, rfl, rfl, rfl⟩ := hp
      refine lv_goto (tgt := 61) hx hb dX1_bring_51 (by decide) ?_
      exact t61 _ _ _ _ _ _ (h1.move (by omega) (by omega) (by omega) hL hlq (hOk1 ht) (Or.inl e1)) (by rw [hu_n (by omega), hu_s]; exact hlq) I
  · obtain ⟨q, rfl, hq, hlq⟩ := hr_3.pos c1
    refine lv_aload_n hx hb dX1_bring_17 rfl (hc_g hl rfl) ?_
    refine lv_iload_n hx hb dX1_bring_18 rfl (hc_g hl rfl) ?_
    refine x_callv [.int (nI q)] (rest := []) C I hl.1 (met_touch (by omega)) (xw_touch C.1.2.2.2.2 rfl rfl ⟨by decide, by decide⟩) rfl rfl (Nat.le_of_ble_eq_true rfl) dX1_bring_19 (fun mem_2 lin_2 chg_2 wrd_2 rs_2 H locs hp I => ?_)
    obtain ⟨rfl, rfl, rfl, rfl, rfl⟩ := hp
    refine lv_iload_n hx hb dX1_bring_22 rfl (hc_g hl rfl) ?_
    exact ret _ _ _ _ _ _ _ _ _ _ (⟨q, rfl, by omega, hlq, h, rfl⟩) I dX1_bring_23
end
section
set_option maxRecDepth 100000
set_option maxHeartbeats 4000000 in
theorem met_placeOf {l : Launch} {D : va_G} {ad : Nat → Nat} {cA : Nat → ClassId} {fs ss : Nat} {la : Int32} {mem lin chg wrd : Nat → Int32} {rs : Int32} {M : Nat → Int32} {j : Nat} (hfs : fs < 2) (hss : ss < 2) (h : hInv fs ss M mem lin chg wrd) (hj : j < 256) : xMi l yX1_placeOf cX1_placeOf 3 .int (rmF 6 137) D ad cA fs ss la mem lin chg wrd rs [.ref (ad 0), .int (nI j)] (fun r a b c d f => ∃ t, r = nI (t * 4 + j % 4) ∧ t < 26 ∧ b t = nI (j / 4) ∧ hInv fs ss M a b c d ∧ rs = f) := by
  refine xMi_of rfl (by decide) (Nat.le_of_ble_eq_true rfl) (fun _ _ _ _ _ _ _ => rfl) ?_
  intro p e s m args below meth c Q A H0 ls C I hl ret
  have hx := C.1.1
  have hb := C.1.2.1
  have hl : lv_has ls 3 [(0, .ref (ad 0)), (1, .int (nI j))] := hl
  refine lv_aload_n hx hb dX1_placeOf_0 rfl (hc_g hl rfl) ?_
  refine lv_iload_n hx hb dX1_placeOf_1 rfl (hc_g hl rfl) ?_
  refine lv_iconst (v := nI 2) hx hb dX1_placeOf_2 (by decide) ?_
  refine lv_ishr hx hb dX1_placeOf_3 ?_
  refine hc_re (nI (j / 4)) (hx_sh2 (by omega)) ?_
  refine x_calli [.int (nI (j / 4))] (rest := []) C I hl.1 (met_bring hfs hss h (by omega)) (xw_bring C.1.2.2.2.2 rfl rfl ⟨by decide, by decide⟩) rfl rfl (Nat.le_of_ble_eq_true rfl) dX1_placeOf_4 (fun r_1 mem_1 lin_1 chg_1 wrd_1 rs_1 H locs hp I => ?_)
  obtain ⟨t, rfl, ht, e1, h1, rfl⟩ := hp
  refine lv_istore_n (lv' := [(2, .int (nI t)), (0, .ref (ad 0)), (1, .int (nI j))]) hx hb dX1_placeOf_7 rfl hl (by decide) rfl (fun ls hl => ?_)
  refine lv_iload_n hx hb dX1_placeOf_8 rfl (hc_g hl rfl) ?_
  refine lv_iconst (v := nI 4) hx hb dX1_placeOf_9 (by decide) ?_
  refine hc_mulN hx hb dX1_placeOf_10 ?_
  refine lv_iload_n hx hb dX1_placeOf_11 rfl (hc_g hl rfl) ?_
  refine lv_iconst (v := nI 3) hx hb dX1_placeOf_12 (by decide) ?_
  refine lv_iand hx hb dX1_placeOf_13 ?_
  refine hc_re (nI (j % 4)) (hx_a3 (by omega)) ?_
  refine hc_addN hx hb dX1_placeOf_14 ?_
  exact ret _ _ _ _ _ _ _ _ _ _ (⟨t, rfl, ht, e1, h1, rfl⟩) I dX1_placeOf_15
set_option maxHeartbeats 4000000 in
theorem met_write {l : Launch} {D : va_G} {ad : Nat → Nat} {cA : Nat → ClassId} {fs ss : Nat} {la : Int32} {mem lin chg wrd : Nat → Int32} {rs : Int32} {M : Nat → Int32} {j : Nat} {v : Int32} (hfs : fs < 2) (hss : ss < 2) (h : hInv fs ss M mem lin chg wrd) (hj : j < 256) : xMv l yX1_write cX1_write 4 (rmF 7 159) D ad cA fs ss la mem lin chg wrd rs [.ref (ad 0), .int (nI j), .int v] (fun a b c d f => hInv fs ss (upd M j v) a b c d ∧ f = sp_kill rs (nI j)) := by
  refine xMv_of rfl (by decide) (Nat.le_of_ble_eq_true rfl) ?_
  intro p e s m args below meth c Q A H0 ls C I hl ret
  have hx := C.1.1
  have hb := C.1.2.1
  have hl : lv_has ls 4 [(0, .ref (ad 0)), (1, .int (nI j)), (2, .int v)] := hl
  refine lv_aload_n hx hb dX1_write_0 rfl (hc_g hl rfl) ?_
  refine lv_iload_n hx hb dX1_write_1 rfl (hc_g hl rfl) ?_
  refine x_calli [.int (nI j)] (rest := []) C I hl.1 (met_placeOf hfs hss h hj) (xw_placeOf C.1.2.2.2.2 rfl rfl ⟨by decide, by decide⟩) rfl rfl (Nat.le_of_ble_eq_true rfl) dX1_write_2 (fun r_1 mem_1 lin_1 chg_1 wrd_1 rs_1 H locs hp I => ?_)
  obtain ⟨t, rfl, ht, e1, h1, rfl⟩ := hp
  refine lv_istore_n (lv' := [(3, .int (nI (t * 4 + j % 4))), (0, .ref (ad 0)), (1, .int (nI j)), (2, .int v)]) hx hb dX1_write_5 rfl hl (by decide) rfl (fun ls hl => ?_)
  refine lv_aload_n hx hb dX1_write_6 rfl (hc_g hl rfl) ?_
  refine xg_wrd C I dX1_write_7 ?_
  refine lv_iload_n hx hb dX1_write_10 rfl (hc_g hl rfl) ?_
  refine lv_iload_n hx hb dX1_write_11 rfl (hc_g hl rfl) ?_
  refine xs_wrd C I (by omega) dX1_write_12 (fun H locs I => ?_)
  refine lv_aload_n hx hb dX1_write_13 rfl (hc_g hl rfl) ?_
  refine xg_chg C I dX1_write_14 ?_
  refine lv_iload_n hx hb dX1_write_17 rfl (hc_g hl rfl) ?_
  refine lv_iconst (v := nI 2) hx hb dX1_write_18 (by decide) ?_
  refine lv_ishr hx hb dX1_write_19 ?_
  refine hc_re (nI t) ((hx_sh2 (by omega)).trans (congrArg nI (by omega))) ?_
  have h2 := h1.put v ht (by omega) (by omega) e1 (i := j % 4)
  rw [show j / 4 * 4 + j % 4 = j by omega] at h2
  refine lv_iconst (v := 1) hx hb dX1_write_20 (by decide) ?_
  refine xs_chg C I (by omega) (by first | exact Or.inl rfl | exact Or.inr rfl) dX1_write_21 (fun H locs I => ?_)
  refine lv_aload_n hx hb dX1_write_22 rfl (hc_g hl rfl) ?_
  refine xg_rs C I dX1_write_23 ?_
  refine lv_iload_n hx hb dX1_write_26 rfl (hc_g hl rfl) ?_
  refine lv_icmp_ne (tgt := 35) hx hb dX1_write_27 (by decide) (fun c1 => ?_) (fun c1 => ?_)
  · exact ret _ _ _ _ _ _ _ _ _ (⟨h2, (sp_kill_ne c1).symm⟩) I dX1_write_35
  · refine lv_aload_n hx hb dX1_write_30 rfl (hc_g hl rfl) ?_
    refine lv_iconst (v := -1) hx hb dX1_write_31 (by decide) ?_
    refine xp_rs C I dX1_write_32 (fun H locs I => ?_)
    exact ret _ _ _ _ _ _ _ _ _ (⟨h2, (sp_kill_eq c1).symm⟩) I dX1_write_35
set_option maxHeartbeats 4000000 in
theorem met_read {l : Launch} {D : va_G} {ad : Nat → Nat} {cA : Nat → ClassId} {fs ss : Nat} {la : Int32} {mem lin chg wrd : Nat → Int32} {rs : Int32} {M : Nat → Int32} {j : Nat} (hfs : fs < 2) (hss : ss < 2) (h : hInv fs ss M mem lin chg wrd) (hj : j < 256) : xMi l yX1_read cX1_read 3 .int (rmF 7 159) D ad cA fs ss la mem lin chg wrd rs [.ref (ad 0), .int (nI j)] (fun r a b c d f => r = M j ∧ hInv fs ss M a b c d ∧ rs = f) := by
  refine xMi_of rfl (by decide) (Nat.le_of_ble_eq_true rfl) (fun _ _ _ _ _ _ _ => rfl) ?_
  intro p e s m args below meth c Q A H0 ls C I hl ret
  have hx := C.1.1
  have hb := C.1.2.1
  have hl : lv_has ls 3 [(0, .ref (ad 0)), (1, .int (nI j))] := hl
  refine lv_aload_n hx hb dX1_read_0 rfl (hc_g hl rfl) ?_
  refine lv_iload_n hx hb dX1_read_1 rfl (hc_g hl rfl) ?_
  refine x_calli [.int (nI j)] (rest := []) C I hl.1 (met_placeOf hfs hss h hj) (xw_placeOf C.1.2.2.2.2 rfl rfl ⟨by decide, by decide⟩) rfl rfl (Nat.le_of_ble_eq_true rfl) dX1_read_2 (fun r_1 mem_1 lin_1 chg_1 wrd_1 rs_1 H locs hp I => ?_)
  obtain ⟨t, rfl, ht, e1, h1, rfl⟩ := hp
  refine lv_istore_n (lv' := [(2, .int (nI (t * 4 + j % 4))), (0, .ref (ad 0)), (1, .int (nI j))]) hx hb dX1_read_5 rfl hl (by decide) rfl (fun ls hl => ?_)
  refine lv_aload_n hx hb dX1_read_6 rfl (hc_g hl rfl) ?_
  refine xg_wrd C I dX1_read_7 ?_
  refine lv_iload_n hx hb dX1_read_10 rfl (hc_g hl rfl) ?_
  refine xl_wrd C I (by omega) dX1_read_11 ?_
  exact ret _ _ _ _ _ _ _ _ _ _ (⟨((h1.ofw ht (by omega) e1).2 (j % 4) (by omega)).trans (congrArg M (by omega)), h1, rfl⟩) I dX1_read_12
set_option maxHeartbeats 4000000 in
theorem met_anyPlace {l : Launch} {D : va_G} {ad : Nat → Nat} {cA : Nat → ClassId} {fs ss : Nat} {la : Int32} {mem lin chg wrd : Nat → Int32} {rs : Int32} {M : Nat → Int32} {L : Nat} (hfs : fs < 2) (hss : ss < 2) (h : hInv fs ss M mem lin chg wrd) (hL : L < 64) : xMi l yX1_anyPlace cX1_anyPlace 4 .int (rmF 2 45) D ad cA fs ss la mem lin chg wrd rs [.ref (ad 0), .int (nI L)] (xKeep mem lin chg wrd rs (fun r => hAny lin (nI L) r)) := by
  refine xMi_of rfl (by decide) (Nat.le_of_ble_eq_true rfl) (fun _ _ _ _ _ _ _ => rfl) ?_
  intro p e s m args below meth c Q A H0 ls C I hl ret
  have hx := C.1.1
  have hb := C.1.2.1
  have hl : lv_has ls 4 [(0, .ref (ad 0)), (1, .int (nI L))] := hl
  have g1 := hf1_lt fs L
  refine lv_aload_n hx hb dX1_anyPlace_0 rfl (hc_g hl rfl) ?_
  refine lv_iload_n hx hb dX1_anyPlace_1 rfl (hc_g hl rfl) ?_
  refine x_callr [.int (nI L)] (rest := []) C I hl.1 (met_firstPlace hfs hL) (xw_firstPlace C.1.2.2.2.2 rfl rfl ⟨by decide, by decide⟩) rfl rfl (Nat.le_of_ble_eq_true rfl) dX1_anyPlace_2 (fun r_1 H locs hr_1 I => ?_)
  subst hr_1
  refine lv_istore_n (lv' := [(2, .int (nI (hf1 fs L))), (0, .ref (ad 0)), (1, .int (nI L))]) hx hb dX1_anyPlace_5 rfl hl (by decide) rfl (fun ls hl => ?_)
  refine lv_aload_n hx hb dX1_anyPlace_6 rfl (hc_g hl rfl) ?_
  refine lv_iload_n hx hb dX1_anyPlace_7 rfl (hc_g hl rfl) ?_
  refine lv_iload_n hx hb dX1_anyPlace_8 rfl (hc_g hl rfl) ?_
  refine x_callr [.int (nI (hf1 fs L)), .int (nI L)] (rest := []) C I hl.1 (met_among (by omega)) (xw_among C.1.2.2.2.2 rfl rfl ⟨by decide, by decide⟩) rfl rfl (Nat.le_of_ble_eq_true rfl) dX1_anyPlace_9 (fun r_2 H locs hr_2 I => ?_)
  refine lv_istore_n (lv' := [(3, .int r_2), (2, .int (nI (hf1 fs L))), (0, .ref (ad 0)), (1, .int (nI L))]) hx hb dX1_anyPlace_12 rfl hl (by decide) rfl (fun ls hl => ?_)
  refine lv_iload_n hx hb dX1_anyPlace_13 rfl (hc_g hl rfl) ?_
  refine lv_if_lt (tgt := 21) hx hb dX1_anyPlace_14 (by decide) (fun c1 => ?_) (fun c1 => ?_)
  · refine lv_aload_n hx hb dX1_anyPlace_21 rfl (hc_g hl rfl) ?_
    refine lv_iload_n hx hb dX1_anyPlace_22 rfl (hc_g hl rfl) ?_
    refine x_callr [.int (nI L)] (rest := []) C I hl.1 (met_lowerPlace hss hL) (xw_lowerPlace C.1.2.2.2.2 rfl rfl ⟨by decide, by decide⟩) rfl rfl (Nat.le_of_ble_eq_true rfl) dX1_anyPlace_23 (fun r_3 H locs hr_3 I => ?_)
    exact ret _ _ _ _ _ _ _ _ _ _ (⟨hAny.of2 h hL hr_2 c1 hr_3, rfl, rfl, rfl, rfl, rfl⟩) I dX1_anyPlace_26
  · refine lv_iload_n hx hb dX1_anyPlace_17 rfl (hc_g hl rfl) ?_
    refine lv_goto (tgt := 26) hx hb dX1_anyPlace_18 (by decide) ?_
    exact ret _ _ _ _ _ _ _ _ _ _ (⟨hAny.of1 hr_2 c1, rfl, rfl, rfl, rfl, rfl⟩) I dX1_anyPlace_26
set_option maxHeartbeats 4000000 in
theorem met_deviceWord {l : Launch} {D : va_G} {ad : Nat → Nat} {cA : Nat → ClassId} {fs ss : Nat} {la : Int32} {mem lin chg wrd : Nat → Int32} {rs : Int32} {M : Nat → Int32} {j : Nat} (hfs : fs < 2) (hss : ss < 2) (h : hInv fs ss M mem lin chg wrd) (hj : j < 256) : xMi l yX1_deviceWord cX1_deviceWord 3 .int (rmF 3 68) D ad cA fs ss la mem lin chg wrd rs [.ref (ad 0), .int (nI j)] (xKeep mem lin chg wrd rs (fun r => r = M j)) := by
  refine xMi_of rfl (by decide) (Nat.le_of_ble_eq_true rfl) (fun _ _ _ _ _ _ _ => rfl) ?_
  intro p e s m args below meth c Q A H0 ls C I hl ret
  have hx := C.1.1
  have hb := C.1.2.1
  have hl : lv_has ls 3 [(0, .ref (ad 0)), (1, .int (nI j))] := hl
  refine lv_aload_n hx hb dX1_deviceWord_0 rfl (hc_g hl rfl) ?_
  refine lv_iload_n hx hb dX1_deviceWord_1 rfl (hc_g hl rfl) ?_
  refine lv_iconst (v := nI 2) hx hb dX1_deviceWord_2 (by decide) ?_
  refine lv_ishr hx hb dX1_deviceWord_3 ?_
  refine hc_re (nI (j / 4)) (hx_sh2 (by omega)) ?_
  refine x_callr [.int (nI (j / 4))] (rest := []) C I hl.1 (met_anyPlace hfs hss h (by omega)) (xw_anyPlace C.1.2.2.2.2 rfl rfl ⟨by decide, by decide⟩) rfl rfl (Nat.le_of_ble_eq_true rfl) dX1_deviceWord_4 (fun r_1 H locs hr_1 I => ?_)
  refine lv_istore_n (lv' := [(2, .int r_1), (0, .ref (ad 0)), (1, .int (nI j))]) hx hb dX1_deviceWord_7 rfl hl (by decide) rfl (fun ls hl => ?_)
  refine lv_iload_n hx hb dX1_deviceWord_8 rfl (hc_g hl rfl) ?_
  refine lv_if_lt (tgt := 27) hx hb dX1_deviceWord_9 (by decide) (fun c1 => ?_) (fun c1 => ?_)
  · have hno := hr_1.neg c1
    have hm := h.ofm (L := j / 4) (i := j % 4) (by omega) (by omega) hno
    rw [show j / 4 * 4 + j % 4 = j by omega] at hm
    refine lv_aload_n hx hb dX1_deviceWord_27 rfl (hc_g hl rfl) ?_
    refine xg_mem C I dX1_deviceWord_28 ?_
    refine lv_iload_n hx hb dX1_deviceWord_31 rfl (hc_g hl rfl) ?_
    refine xl_mem C I (by omega) dX1_deviceWord_32 ?_
    exact ret _ _ _ _ _ _ _ _ _ _ (⟨hm, rfl, rfl, rfl, rfl, rfl⟩) I dX1_deviceWord_33
  · obtain ⟨q, rfl, hq, hlq⟩ := hr_1.pos c1
    refine lv_aload_n hx hb dX1_deviceWord_12 rfl (hc_g hl rfl) ?_
    refine xg_wrd C I dX1_deviceWord_13 ?_
    refine lv_iload_n hx hb dX1_deviceWord_16 rfl (hc_g hl rfl) ?_
    refine lv_iconst (v := nI 4) hx hb dX1_deviceWord_17 (by decide) ?_
    refine hc_mulN hx hb dX1_deviceWord_18 ?_
    refine lv_iload_n hx hb dX1_deviceWord_19 rfl (hc_g hl rfl) ?_
    refine lv_iconst (v := nI 3) hx hb dX1_deviceWord_20 (by decide) ?_
    refine lv_iand hx hb dX1_deviceWord_21 ?_
    refine hc_re (nI (j % 4)) (hx_a3 (by omega)) ?_
    refine hc_addN hx hb dX1_deviceWord_22 ?_
    refine xl_wrd C I (by omega) dX1_deviceWord_23 ?_
    refine lv_goto (tgt := 33) hx hb dX1_deviceWord_24 (by decide) ?_
    exact ret _ _ _ _ _ _ _ _ _ _ (⟨((h.ofw hq (by omega) hlq).2 (j % 4) (by omega)).trans (congrArg M (by omega)), rfl, rfl, rfl, rfl, rfl⟩) I dX1_deviceWord_33
set_option maxHeartbeats 4000000 in
theorem met_devicePut {l : Launch} {D : va_G} {ad : Nat → Nat} {cA : Nat → ClassId} {fs ss : Nat} {la : Int32} {mem lin chg wrd : Nat → Int32} {rs : Int32} {M : Nat → Int32} {j : Nat} {v : Int32} (hfs : fs < 2) (hss : ss < 2) (h : hInv fs ss M mem lin chg wrd) (hj : j < 256) : xMv l yX1_devicePut cX1_devicePut 4 (rmF 3 68) D ad cA fs ss la mem lin chg wrd rs [.ref (ad 0), .int (nI j), .int v] (fun a b c d f => hInv fs ss (upd M j v) a b c d ∧ f = sp_kill rs (nI j)) := by
  refine xMv_of rfl (by decide) (Nat.le_of_ble_eq_true rfl) ?_
  intro p e s m args below meth c Q A H0 ls C I hl ret
  have hx := C.1.1
  have hb := C.1.2.1
  have hl : lv_has ls 4 [(0, .ref (ad 0)), (1, .int (nI j)), (2, .int v)] := hl
  have ej : j / 4 * 4 + j % 4 = j := by omega
  refine lv_aload_n hx hb dX1_devicePut_0 rfl (hc_g hl rfl) ?_
  refine lv_iload_n hx hb dX1_devicePut_1 rfl (hc_g hl rfl) ?_
  refine lv_iconst (v := nI 2) hx hb dX1_devicePut_2 (by decide) ?_
  refine lv_ishr hx hb dX1_devicePut_3 ?_
  refine hc_re (nI (j / 4)) (hx_sh2 (by omega)) ?_
  refine x_callr [.int (nI (j / 4))] (rest := []) C I hl.1 (met_anyPlace hfs hss h (by omega)) (xw_anyPlace C.1.2.2.2.2 rfl rfl ⟨by decide, by decide⟩) rfl rfl (Nat.le_of_ble_eq_true rfl) dX1_devicePut_4 (fun r_1 H locs hr_1 I => ?_)
  refine lv_istore_n (lv' := [(3, .int r_1), (0, .ref (ad 0)), (1, .int (nI j)), (2, .int v)]) hx hb dX1_devicePut_7 rfl hl (by decide) rfl (fun ls hl => ?_)
  refine lv_iload_n hx hb dX1_devicePut_8 rfl (hc_g hl rfl) ?_
  refine lv_if_lt (tgt := 37) hx hb dX1_devicePut_9 (by decide) (fun c1 => ?_) (fun c1 => ?_)
  · have h2 := h.putm v (L := j / 4) (i := j % 4) (by omega) (by omega) (hr_1.neg c1)
    rw [ej] at h2
    refine lv_iload_n hx hb dX1_devicePut_37 rfl (hc_g hl rfl) ?_
    refine lv_if_lt (tgt := 48) hx hb dX1_devicePut_38 (by decide) (fun c3 => ?_) (fun c3 => ?_)
    · refine lv_aload_n hx hb dX1_devicePut_48 rfl (hc_g hl rfl) ?_
      refine xg_mem C I dX1_devicePut_49 ?_
      refine lv_iload_n hx hb dX1_devicePut_52 rfl (hc_g hl rfl) ?_
      refine lv_iload_n hx hb dX1_devicePut_53 rfl (hc_g hl rfl) ?_
      refine xs_mem C I (by omega) dX1_devicePut_54 (fun H locs I => ?_)
      refine lv_aload_n hx hb dX1_devicePut_55 rfl (hc_g hl rfl) ?_
      refine xg_rs C I dX1_devicePut_56 ?_
      refine lv_iload_n hx hb dX1_devicePut_59 rfl (hc_g hl rfl) ?_
      refine lv_icmp_ne (tgt := 68) hx hb dX1_devicePut_60 (by decide) (fun c5 => ?_) (fun c5 => ?_)
      · exact ret _ _ _ _ _ _ _ _ _ (⟨h2, (sp_kill_ne c5).symm⟩) I dX1_devicePut_68
      · refine lv_aload_n hx hb dX1_devicePut_63 rfl (hc_g hl rfl) ?_
        refine lv_iconst (v := -1) hx hb dX1_devicePut_64 (by decide) ?_
        refine xp_rs C I dX1_devicePut_65 (fun H locs I => ?_)
        exact ret _ _ _ _ _ _ _ _ _ (⟨h2, (sp_kill_eq c5).symm⟩) I dX1_devicePut_68
    · exact absurd c1 c3
  · obtain ⟨q, rfl, hq, hlq⟩ := hr_1.pos c1
    refine lv_aload_n hx hb dX1_devicePut_12 rfl (hc_g hl rfl) ?_
    refine xg_chg C I dX1_devicePut_13 ?_
    refine lv_iload_n hx hb dX1_devicePut_16 rfl (hc_g hl rfl) ?_
    refine xl_chg C I (by omega) dX1_devicePut_17 ?_
    refine lv_if_eq (tgt := 37) hx hb dX1_devicePut_18 (by decide) (fun c2 => ?_) (fun c2 => ?_)
    · have h2 := (h.drop hq (Or.inr c2)).putm v (L := j / 4) (i := j % 4) (by omega) (by omega) (h.gone hq (by omega) hlq)
      rw [ej] at h2
      refine lv_iload_n hx hb dX1_devicePut_37 rfl (hc_g hl rfl) ?_
      refine lv_if_lt (tgt := 48) hx hb dX1_devicePut_38 (by decide) (fun c3 => ?_) (fun c3 => ?_)
      · exact absurd c3 c1
      · refine lv_aload_n hx hb dX1_devicePut_41 rfl (hc_g hl rfl) ?_
        refine xg_lin C I dX1_devicePut_42 ?_
        refine lv_iload_n hx hb dX1_devicePut_45 rfl (hc_g hl rfl) ?_
        refine lv_iconst (v := -1) hx hb dX1_devicePut_46 (by decide) ?_
        refine xs_lin C I (by omega) dX1_devicePut_47 (fun H locs I => ?_)
        refine lv_aload_n hx hb dX1_devicePut_48 rfl (hc_g hl rfl) ?_
        refine xg_mem C I dX1_devicePut_49 ?_
        refine lv_iload_n hx hb dX1_devicePut_52 rfl (hc_g hl rfl) ?_
        refine lv_iload_n hx hb dX1_devicePut_53 rfl (hc_g hl rfl) ?_
        refine xs_mem C I (by omega) dX1_devicePut_54 (fun H locs I => ?_)
        refine lv_aload_n hx hb dX1_devicePut_55 rfl (hc_g hl rfl) ?_
        refine xg_rs C I dX1_devicePut_56 ?_
        refine lv_iload_n hx hb dX1_devicePut_59 rfl (hc_g hl rfl) ?_
        refine lv_icmp_ne (tgt := 68) hx hb dX1_devicePut_60 (by decide) (fun c5 => ?_) (fun c5 => ?_)
        · exact ret _ _ _ _ _ _ _ _ _ (⟨h2, (sp_kill_ne c5).symm⟩) I dX1_devicePut_68
        · refine lv_aload_n hx hb dX1_devicePut_63 rfl (hc_g hl rfl) ?_
          refine lv_iconst (v := -1) hx hb dX1_devicePut_64 (by decide) ?_
          refine xp_rs C I dX1_devicePut_65 (fun H locs I => ?_)
          exact ret _ _ _ _ _ _ _ _ _ (⟨h2, (sp_kill_eq c5).symm⟩) I dX1_devicePut_68
    · have h2 := h.put1 v hq (by omega) (by omega) hlq c2 (i := j % 4)
      rw [ej] at h2
      refine lv_aload_n hx hb dX1_devicePut_21 rfl (hc_g hl rfl) ?_
      refine xg_wrd C I dX1_devicePut_22 ?_
      refine lv_iload_n hx hb dX1_devicePut_25 rfl (hc_g hl rfl) ?_
      refine lv_iconst (v := nI 4) hx hb dX1_devicePut_26 (by decide) ?_
      refine hc_mulN hx hb dX1_devicePut_27 ?_
      refine lv_iload_n hx hb dX1_devicePut_28 rfl (hc_g hl rfl) ?_
      refine lv_iconst (v := nI 3) hx hb dX1_devicePut_29 (by decide) ?_
      refine lv_iand hx hb dX1_devicePut_30 ?_
      refine hc_re (nI (j % 4)) (hx_a3 (by omega)) ?_
      refine hc_addN hx hb dX1_devicePut_31 ?_
      refine lv_iload_n hx hb dX1_devicePut_32 rfl (hc_g hl rfl) ?_
      refine xs_wrd C I (by omega) dX1_devicePut_33 (fun H locs I => ?_)
      refine lv_goto (tgt := 55) hx hb dX1_devicePut_34 (by decide) ?_
      refine lv_aload_n hx hb dX1_devicePut_55 rfl (hc_g hl rfl) ?_
      refine xg_rs C I dX1_devicePut_56 ?_
      refine lv_iload_n hx hb dX1_devicePut_59 rfl (hc_g hl rfl) ?_
      refine lv_icmp_ne (tgt := 68) hx hb dX1_devicePut_60 (by decide) (fun c5 => ?_) (fun c5 => ?_)
      · exact ret _ _ _ _ _ _ _ _ _ (⟨h2, (sp_kill_ne c5).symm⟩) I dX1_devicePut_68
      · refine lv_aload_n hx hb dX1_devicePut_63 rfl (hc_g hl rfl) ?_
        refine lv_iconst (v := -1) hx hb dX1_devicePut_64 (by decide) ?_
        refine xp_rs C I dX1_devicePut_65 (fun H locs I => ?_)
        exact ret _ _ _ _ _ _ _ _ _ (⟨h2, (sp_kill_eq c5).symm⟩) I dX1_devicePut_68
set_option maxHeartbeats 4000000 in
theorem met_empty {l : Launch} {D : va_G} {ad : Nat → Nat} {cA : Nat → ClassId} {fs ss : Nat} {la : Int32} {mem lin chg wrd : Nat → Int32} {rs : Int32} {M : Nat → Int32} {q : Nat} (h : hInv fs ss M mem lin chg wrd) (hq : q < 26) : xMv l yX1_empty cX1_empty 2 (rmF 1 22) D ad cA fs ss la mem lin chg wrd rs [.ref (ad 0), .int (nI q)] (fun a b c d f => hInv fs ss M a b c d ∧ rs = f) := by
  refine xMv_of rfl (by decide) (Nat.le_of_ble_eq_true rfl) ?_
  intro p e s m args below meth c Q A H0 ls C I hl ret
  have hx := C.1.1
  have hb := C.1.2.1
  have hl : lv_has ls 2 [(0, .ref (ad 0)), (1, .int (nI q))] := hl
  refine lv_aload_n hx hb dX1_empty_0 rfl (hc_g hl rfl) ?_
  refine lv_iload_n hx hb dX1_empty_1 rfl (hc_g hl rfl) ?_
  refine x_callv [.int (nI q)] (rest := []) C I hl.1 (met_writeBack h hq) (xw_writeBack C.1.2.2.2.2 rfl rfl ⟨by decide, by decide⟩) rfl rfl (Nat.le_of_ble_eq_true rfl) dX1_empty_2 (fun mem_1 lin_1 chg_1 wrd_1 rs_1 H locs hp I => ?_)
  obtain ⟨rfl, rfl, rfl, rfl, h1⟩ := hp
  refine lv_aload_n hx hb dX1_empty_5 rfl (hc_g hl rfl) ?_
  refine xg_lin C I dX1_empty_6 ?_
  refine lv_iload_n hx hb dX1_empty_9 rfl (hc_g hl rfl) ?_
  refine lv_iconst (v := -1) hx hb dX1_empty_10 (by decide) ?_
  refine xs_lin C I (by omega) dX1_empty_11 (fun H locs I => ?_)
  exact ret _ _ _ _ _ _ _ _ _ (⟨h1.drop hq (Or.inr hu_s), rfl⟩) I dX1_empty_12
end
section
set_option maxRecDepth 100000
/-! what the calls answer and do, as plain functions of the memory M and the reserved word rs: (answer, memory, reserved) -/
abbrev sT : Type := Int32 × (Nat → Int32) × Int32
def sp_load (M : Nat → Int32) (rs a : Int32) : sT := if spBad a 256 then (-1, M, rs) else (M a.toNatClampNeg, M, rs)
def sp_store (M : Nat → Int32) (rs a v : Int32) : sT := if spBad a 256 then (-1, M, rs) else (0, upd M a.toNatClampNeg v, sp_kill rs a)
def sp_b (w : Int32) (j : Nat) : Int32 := (w >>> (nI (8 * (j % 4)) &&& 31)) &&& nI 255
def sp_byte (w : Int32) (j : Nat) (sg : Int32) : Int32 := if sg = 0 ∨ sp_b w j ≤ nI 127 then sp_b w j else sp_b w j - nI 256
def sp_w (w : Int32) (j : Nat) (v : Int32) : Int32 := (w &&& ((nI 255 <<< (nI (8 * (j % 4)) &&& 31)) ^^^ -1)) ||| ((v &&& nI 255) <<< (nI (8 * (j % 4)) &&& 31))
def sp_loadByte (M : Nat → Int32) (rs a sg : Int32) : sT := if spBad a 1024 then (-1, M, rs) else (sp_byte (M (a.toNatClampNeg / 4)) a.toNatClampNeg sg, M, rs)
def sp_storeByte (M : Nat → Int32) (rs a v : Int32) : sT := if spBad a 1024 then (-1, M, rs) else (0, upd M (a.toNatClampNeg / 4) (sp_w (M (a.toNatClampNeg / 4)) a.toNatClampNeg v), sp_kill rs (nI (a.toNatClampNeg / 4)))
def sp_swap (M : Nat → Int32) (rs a v : Int32) : sT := if spBad a 256 then (-1, M, rs) else (M a.toNatClampNeg, upd M a.toNatClampNeg v, sp_kill rs a)
def sp_addTo (M : Nat → Int32) (rs a v : Int32) : sT := if spBad a 256 then (-1, M, rs) else (M a.toNatClampNeg + v, upd M a.toNatClampNeg (M a.toNatClampNeg + v), sp_kill rs a)
def sp_loadReserved (M : Nat → Int32) (rs a : Int32) : sT := if spBad a 256 then (-1, M, rs) else (M a.toNatClampNeg, M, a)
def sp_storeConditional (M : Nat → Int32) (rs a v : Int32) : sT := if spBad a 256 then (-1, M, rs) else if rs = a then (1, upd M a.toNatClampNeg v, -1) else (0, M, -1)
def spCp (M : Nat → Int32) (rs : Int32) (f t : Nat) : Nat → (Nat → Int32) × Int32
  | 0 => (M, rs)
  | i + 1 => (upd (spCp M rs f t i).1 (t + i) ((spCp M rs f t i).1 (f + i)), sp_kill (spCp M rs f t i).2 (nI (t + i)))
def spFi (M : Nat → Int32) (rs : Int32) (t : Nat) (v : Int32) : Nat → (Nat → Int32) × Int32
  | 0 => (M, rs)
  | i + 1 => (upd (spFi M rs t v i).1 (t + i) v, sp_kill (spFi M rs t v i).2 (nI (t + i)))
def spSum (M : Nat → Int32) : Nat → Int32
  | 0 => 0
  | i + 1 => spSum M i + M i
abbrev spLen (k : Nat) (n a : Int32) : Prop := n < 0 ∨ nI k < n ∨ nI 256 < a + n
def sp_copy (M : Nat → Int32) (rs a b n : Int32) : sT := if spBad a 256 ∨ spBad b 256 then (-1, M, rs) else if n < 0 ∨ nI 32 < n ∨ nI 256 < a + n ∨ nI 256 < b + n then (-2, M, rs) else (n, spCp M rs a.toNatClampNeg b.toNatClampNeg n.toNatClampNeg)
def sp_deviceFill (M : Nat → Int32) (rs a n v : Int32) : sT := if spBad a 256 then (-1, M, rs) else if n < 0 ∨ nI 64 < n ∨ nI 256 < a + n then (-2, M, rs) else (n, spFi M rs a.toNatClampNeg v n.toNatClampNeg)
def sp_hint (M : Nat → Int32) (rs a : Int32) : sT := if spBad a 256 then (-1, M, rs) else (0, M, rs)
def sp_sum (M : Nat → Int32) (rs : Int32) : sT := (spSum M 256, M, rs)
def sp_reserved (M : Nat → Int32) (rs : Int32) : sT := (rs, M, rs)
theorem spOk {j n : Nat} (hj : j < n) (hn : n < 2 ^ 31) : ¬ spBad (nI j) n := by
  rintro (h | h)
  · exact nI_pos (by omega) h
  · exact nI_ge hj hn h
section SPC
variable {M : Nat → Int32} {rs a b v n sg : Int32} {j k c : Nat}
theorem sp_load_bad (h : spBad a 256) : sp_load M rs a = (-1, M, rs) := if_pos h
theorem sp_load_good (hj : j < 256) : sp_load M rs (nI j) = (M j, M, rs) := by unfold sp_load; rw [if_neg (spOk hj (by decide)), nI_clamp (by omega)]
theorem sp_store_bad (h : spBad a 256) : sp_store M rs a v = (-1, M, rs) := if_pos h
theorem sp_store_good (hj : j < 256) : sp_store M rs (nI j) v = (0, upd M j v, sp_kill rs (nI j)) := by unfold sp_store; rw [if_neg (spOk hj (by decide)), nI_clamp (by omega)]
theorem sp_loadByte_bad (h : spBad a 1024) : sp_loadByte M rs a sg = (-1, M, rs) := if_pos h
theorem sp_loadByte_good (hj : j < 1024) : sp_loadByte M rs (nI j) sg = (sp_byte (M (j / 4)) j sg, M, rs) := by unfold sp_loadByte; rw [if_neg (spOk hj (by decide)), nI_clamp (by omega)]
theorem sp_storeByte_bad (h : spBad a 1024) : sp_storeByte M rs a v = (-1, M, rs) := if_pos h
theorem sp_storeByte_good (hj : j < 1024) : sp_storeByte M rs (nI j) v = (0, upd M (j / 4) (sp_w (M (j / 4)) j v), sp_kill rs (nI (j / 4))) := by unfold sp_storeByte; rw [if_neg (spOk hj (by decide)), nI_clamp (by omega)]
theorem sp_swap_bad (h : spBad a 256) : sp_swap M rs a v = (-1, M, rs) := if_pos h
theorem sp_swap_good (hj : j < 256) : sp_swap M rs (nI j) v = (M j, upd M j v, sp_kill rs (nI j)) := by unfold sp_swap; rw [if_neg (spOk hj (by decide)), nI_clamp (by omega)]
theorem sp_addTo_bad (h : spBad a 256) : sp_addTo M rs a v = (-1, M, rs) := if_pos h
theorem sp_addTo_good (hj : j < 256) : sp_addTo M rs (nI j) v = (M j + v, upd M j (M j + v), sp_kill rs (nI j)) := by unfold sp_addTo; rw [if_neg (spOk hj (by decide)), nI_clamp (by omega)]
theorem sp_loadReserved_bad (h : spBad a 256) : sp_loadReserved M rs a = (-1, M, rs) := if_pos h
theorem sp_loadReserved_good (hj : j < 256) : sp_loadReserved M rs (nI j) = (M j, M, nI j) := by unfold sp_loadReserved; rw [if_neg (spOk hj (by decide)), nI_clamp (by omega)]
theorem sp_storeConditional_bad (h : spBad a 256) : sp_storeConditional M rs a v = (-1, M, rs) := if_pos h
theorem sp_storeConditional_eq (hj : j < 256) (h : rs = nI j) : sp_storeConditional M rs (nI j) v = (1, upd M j v, -1) := by unfold sp_storeConditional; rw [if_neg (spOk hj (by decide)), if_pos h, nI_clamp (by omega)]
theorem sp_storeConditional_ne (hj : j < 256) (h : ¬ rs = nI j) : sp_storeConditional M rs (nI j) v = (0, M, -1) := by unfold sp_storeConditional; rw [if_neg (spOk hj (by decide)), if_neg h]
theorem sp_copy_bad (h : spBad a 256 ∨ spBad b 256) : sp_copy M rs a b n = (-1, M, rs) := if_pos h
theorem sp_copy_len (hj : j < 256) (hk : k < 256) (h : n < 0 ∨ nI 32 < n ∨ nI 256 < nI j + n ∨ nI 256 < nI k + n) : sp_copy M rs (nI j) (nI k) n = (-2, M, rs) := by
  unfold sp_copy
  rw [if_neg (by rintro (q | q); exact spOk hj (by decide) q; exact spOk hk (by decide) q), if_pos h]
theorem sp_copy_good (hc : c ≤ 32) (hj : j + c ≤ 256) (hk : k + c ≤ 256) (hj2 : j < 256) (hk2 : k < 256) : sp_copy M rs (nI j) (nI k) (nI c) = (nI c, spCp M rs j k c) := by
  unfold sp_copy
  rw [if_neg (by rintro (q | q); exact spOk hj2 (by decide) q; exact spOk hk2 (by decide) q), if_neg, nI_clamp (by omega), nI_clamp (by omega), nI_clamp (by omega)]
  rw [nI_add, nI_add]
  rintro (q | q | q | q)
  · exact nI_pos (by omega) q
  · exact nI_nlt hc (by decide) q
  · exact nI_nlt hj (by decide) q
  · exact nI_nlt hk (by decide) q
theorem sp_deviceFill_bad (h : spBad a 256) : sp_deviceFill M rs a n v = (-1, M, rs) := if_pos h
theorem sp_deviceFill_len (hj : j < 256) (h : n < 0 ∨ nI 64 < n ∨ nI 256 < nI j + n) : sp_deviceFill M rs (nI j) n v = (-2, M, rs) := by
  unfold sp_deviceFill
  rw [if_neg (spOk hj (by decide)), if_pos h]
theorem sp_deviceFill_good (hc : c ≤ 64) (hj : j + c ≤ 256) (hj2 : j < 256) : sp_deviceFill M rs (nI j) (nI c) v = (nI c, spFi M rs j v c) := by
  unfold sp_deviceFill
  rw [if_neg (spOk hj2 (by decide)), if_neg, nI_clamp (by omega), nI_clamp (by omega)]
  rw [nI_add]
  rintro (q | q | q)
  · exact nI_pos (by omega) q
  · exact nI_nlt hc (by decide) q
  · exact nI_nlt hj (by decide) q
theorem sp_hint_bad (h : spBad a 256) : sp_hint M rs a = (-1, M, rs) := if_pos h
theorem sp_hint_good (hj : j < 256) : sp_hint M rs (nI j) = (0, M, rs) := if_neg (spOk hj (by decide))
theorem sp_kill_m1 : sp_kill (-1) a = -1 := by unfold sp_kill; split <;> rfl
/-- a length that isn't refused -/
theorem spLen_copy (n : Int32) (hj : j < 256) (hk : k < 256) : (n < 0 ∨ nI 32 < n ∨ nI 256 < nI j + n ∨ nI 256 < nI k + n) ∨ ∃ c, c ≤ 32 ∧ j + c ≤ 256 ∧ k + c ≤ 256 ∧ n = nI c := by
  by_cases h0 : n < 0
  · exact Or.inl (Or.inl h0)
  · obtain ⟨c, hc, rfl⟩ := nI_of h0
    by_cases h1 : c ≤ 32
    · by_cases h2 : j + c ≤ 256
      · by_cases h3 : k + c ≤ 256
        · exact Or.inr ⟨c, h1, h2, h3, rfl⟩
        · exact Or.inl (Or.inr (Or.inr (Or.inr (by rw [nI_add]; exact nI_lt (by omega) (by omega)))))
      · exact Or.inl (Or.inr (Or.inr (Or.inl (by rw [nI_add]; exact nI_lt (by omega) (by omega)))))
    · exact Or.inl (Or.inr (Or.inl (nI_lt (by omega) hc)))
theorem spLen_fill (n : Int32) (hj : j < 256) : (n < 0 ∨ nI 64 < n ∨ nI 256 < nI j + n) ∨ ∃ c, c ≤ 64 ∧ j + c ≤ 256 ∧ n = nI c := by
  by_cases h0 : n < 0
  · exact Or.inl (Or.inl h0)
  · obtain ⟨c, hc, rfl⟩ := nI_of h0
    by_cases h1 : c ≤ 64
    · by_cases h2 : j + c ≤ 256
      · exact Or.inr ⟨c, h1, h2, rfl⟩
      · exact Or.inl (Or.inr (Or.inr (by rw [nI_add]; exact nI_lt (by omega) (by omega))))
    · exact Or.inl (Or.inr (Or.inl (nI_lt (by omega) hc)))
theorem sp_byte_0 {w : Int32} (h : sg = 0) : sp_byte w j sg = sp_b w j := if_pos (Or.inl h)
theorem sp_byte_lo {w : Int32} (h : sp_b w j ≤ nI 127) : sp_byte w j sg = sp_b w j := if_pos (Or.inr h)
theorem sp_byte_hi {w : Int32} (h0 : ¬ sg = 0) (h : ¬ sp_b w j ≤ nI 127) : sp_byte w j sg = sp_b w j - nI 256 := if_neg (fun z => z.elim h0 h)
theorem hx_1024 {x : Int32} (h : nI 1024 ≤ x) : ¬ x ≤ nI 1023 := by
  have h1 := nI_toInt (n := 1024) (by decide)
  have h2 := nI_toInt (n := 1023) (by decide)
  rw [Int32.le_iff_toInt_le] at h ⊢
  omega
theorem hx_nle {x y : Int32} (h : y < x) : ¬ x ≤ y := by
  rw [Int32.lt_iff_toInt_lt] at h
  rw [Int32.le_iff_toInt_le]
  omega
end SPC
abbrev xPost (fs ss : Nat) (T : sT) : Int32 → xPo := fun r a b c d f => r = T.1 ∧ hInv fs ss T.2.1 a b c d ∧ f = T.2.2
end
section
set_option maxRecDepth 100000
set_option maxHeartbeats 4000000 in
theorem met_load_bad {l : Launch} {D : va_G} {ad : Nat → Nat} {cA : Nat → ClassId} {fs ss : Nat} {la : Int32} {mem lin chg wrd : Nat → Int32} {rs : Int32} {M : Nat → Int32} {a : Int32} (hfs : fs < 2) (hss : ss < 2) (h : hInv fs ss M mem lin chg wrd) (hbad : spBad a 256) : xMi l yX1_load cX1_load 2 .int (rmF 8 181) D ad cA fs ss la mem lin chg wrd rs [.ref (ad 0), .int a] (xPost fs ss (sp_load M rs a)) := by
  rw [sp_load_bad hbad]
  refine xMi_of rfl (by decide) (Nat.le_of_ble_eq_true rfl) (fun _ _ _ _ _ _ _ => rfl) ?_
  intro p e s m args below meth c Q A H0 ls C I hl ret
  have hx := C.1.1
  have hb := C.1.2.1
  have hl : lv_has ls 2 [(0, .ref (ad 0)), (1, .int a)] := hl
  refine lv_iload_n hx hb dX1_load_0 rfl (hc_g hl rfl) ?_
  refine x_callsr [.int a] (rest := []) C I hl.1 (met_bad_bad hbad) (xw_bad C.1.2.2.2.2 rfl rfl ⟨by decide, by decide⟩) rfl rfl (Nat.le_of_ble_eq_true rfl) dX1_load_1 (fun r_1 H locs hr_1 I => ?_)
  subst hr_1
  refine lv_if_eq (tgt := 11) hx hb dX1_load_4 (by decide) (fun c1 => ?_) (fun c1 => ?_)
  · exact absurd c1 (by decide)
  · refine lv_iconst (v := -1) hx hb dX1_load_7 (by decide) ?_
    refine lv_goto (tgt := 16) hx hb dX1_load_8 (by decide) ?_
    exact ret _ _ _ _ _ _ _ _ _ _ (⟨rfl, h, rfl⟩) I dX1_load_16
set_option maxHeartbeats 4000000 in
theorem met_load_good {l : Launch} {D : va_G} {ad : Nat → Nat} {cA : Nat → ClassId} {fs ss : Nat} {la : Int32} {mem lin chg wrd : Nat → Int32} {rs : Int32} {M : Nat → Int32}  {j : Nat} (hfs : fs < 2) (hss : ss < 2) (h : hInv fs ss M mem lin chg wrd) (hj : j < 256) : xMi l yX1_load cX1_load 2 .int (rmF 8 181) D ad cA fs ss la mem lin chg wrd rs [.ref (ad 0), .int (nI j)] (xPost fs ss (sp_load M rs (nI j))) := by
  rw [sp_load_good hj]
  refine xMi_of rfl (by decide) (Nat.le_of_ble_eq_true rfl) (fun _ _ _ _ _ _ _ => rfl) ?_
  intro p e s m args below meth c Q A H0 ls C I hl ret
  have hx := C.1.1
  have hb := C.1.2.1
  have hl : lv_has ls 2 [(0, .ref (ad 0)), (1, .int (nI j))] := hl
  refine lv_iload_n hx hb dX1_load_0 rfl (hc_g hl rfl) ?_
  refine x_callsr [.int (nI j)] (rest := []) C I hl.1 (met_bad_good hj) (xw_bad C.1.2.2.2.2 rfl rfl ⟨by decide, by decide⟩) rfl rfl (Nat.le_of_ble_eq_true rfl) dX1_load_1 (fun r_1 H locs hr_1 I => ?_)
  subst hr_1
  refine lv_if_eq (tgt := 11) hx hb dX1_load_4 (by decide) (fun c1 => ?_) (fun c1 => ?_)
  · refine lv_aload_n hx hb dX1_load_11 rfl (hc_g hl rfl) ?_
    refine lv_iload_n hx hb dX1_load_12 rfl (hc_g hl rfl) ?_
    refine x_calli [.int (nI j)] (rest := []) C I hl.1 (met_read hfs hss h hj) (xw_read C.1.2.2.2.2 rfl rfl ⟨by decide, by decide⟩) rfl rfl (Nat.le_of_ble_eq_true rfl) dX1_load_13 (fun r_2 mem_2 lin_2 chg_2 wrd_2 rs_2 H locs hp I => ?_)
    obtain ⟨rfl, h2, rfl⟩ := hp
    exact ret _ _ _ _ _ _ _ _ _ _ (⟨rfl, h2, rfl⟩) I dX1_load_16
  · exact absurd rfl c1
theorem met_load {l : Launch} {D : va_G} {ad : Nat → Nat} {cA : Nat → ClassId} {fs ss : Nat} {la : Int32} {mem lin chg wrd : Nat → Int32} {rs : Int32} {M : Nat → Int32} {a : Int32} (hfs : fs < 2) (hss : ss < 2) (h : hInv fs ss M mem lin chg wrd) : xMi l yX1_load cX1_load 2 .int (rmF 8 181) D ad cA fs ss la mem lin chg wrd rs [.ref (ad 0), .int a] (xPost fs ss (sp_load M rs a)) := by
  rcases pk_ix a (n := 256) (by decide) with q | q | ⟨j, hj, rfl⟩
  · exact met_load_bad hfs hss h (Or.inl q)
  · exact met_load_bad hfs hss h (Or.inr q)
  · exact met_load_good hfs hss h hj
set_option maxHeartbeats 4000000 in
theorem met_store_bad {l : Launch} {D : va_G} {ad : Nat → Nat} {cA : Nat → ClassId} {fs ss : Nat} {la : Int32} {mem lin chg wrd : Nat → Int32} {rs : Int32} {M : Nat → Int32} {a v : Int32} (hfs : fs < 2) (hss : ss < 2) (h : hInv fs ss M mem lin chg wrd) (hbad : spBad a 256) : xMi l yX1_store cX1_store 3 .int (rmF 8 182) D ad cA fs ss la mem lin chg wrd rs [.ref (ad 0), .int a, .int v] (xPost fs ss (sp_store M rs a v)) := by
  rw [sp_store_bad hbad]
  refine xMi_of rfl (by decide) (Nat.le_of_ble_eq_true rfl) (fun _ _ _ _ _ _ _ => rfl) ?_
  intro p e s m args below meth c Q A H0 ls C I hl ret
  have hx := C.1.1
  have hb := C.1.2.1
  have hl : lv_has ls 3 [(0, .ref (ad 0)), (1, .int a), (2, .int v)] := hl
  refine lv_iload_n hx hb dX1_store_0 rfl (hc_g hl rfl) ?_
  refine x_callsr [.int a] (rest := []) C I hl.1 (met_bad_bad hbad) (xw_bad C.1.2.2.2.2 rfl rfl ⟨by decide, by decide⟩) rfl rfl (Nat.le_of_ble_eq_true rfl) dX1_store_1 (fun r_1 H locs hr_1 I => ?_)
  subst hr_1
  refine lv_if_eq (tgt := 9) hx hb dX1_store_4 (by decide) (fun c1 => ?_) (fun c1 => ?_)
  · exact absurd c1 (by decide)
  · refine lv_iconst (v := -1) hx hb dX1_store_7 (by decide) ?_
    exact ret _ _ _ _ _ _ _ _ _ _ (⟨rfl, h, rfl⟩) I dX1_store_8
set_option maxHeartbeats 4000000 in
theorem met_store_good {l : Launch} {D : va_G} {ad : Nat → Nat} {cA : Nat → ClassId} {fs ss : Nat} {la : Int32} {mem lin chg wrd : Nat → Int32} {rs : Int32} {M : Nat → Int32} {v : Int32} {j : Nat} (hfs : fs < 2) (hss : ss < 2) (h : hInv fs ss M mem lin chg wrd) (hj : j < 256) : xMi l yX1_store cX1_store 3 .int (rmF 8 182) D ad cA fs ss la mem lin chg wrd rs [.ref (ad 0), .int (nI j), .int v] (xPost fs ss (sp_store M rs (nI j) v)) := by
  rw [sp_store_good hj]
  refine xMi_of rfl (by decide) (Nat.le_of_ble_eq_true rfl) (fun _ _ _ _ _ _ _ => rfl) ?_
  intro p e s m args below meth c Q A H0 ls C I hl ret
  have hx := C.1.1
  have hb := C.1.2.1
  have hl : lv_has ls 3 [(0, .ref (ad 0)), (1, .int (nI j)), (2, .int v)] := hl
  refine lv_iload_n hx hb dX1_store_0 rfl (hc_g hl rfl) ?_
  refine x_callsr [.int (nI j)] (rest := []) C I hl.1 (met_bad_good hj) (xw_bad C.1.2.2.2.2 rfl rfl ⟨by decide, by decide⟩) rfl rfl (Nat.le_of_ble_eq_true rfl) dX1_store_1 (fun r_1 H locs hr_1 I => ?_)
  subst hr_1
  refine lv_if_eq (tgt := 9) hx hb dX1_store_4 (by decide) (fun c1 => ?_) (fun c1 => ?_)
  · refine lv_aload_n hx hb dX1_store_9 rfl (hc_g hl rfl) ?_
    refine lv_iload_n hx hb dX1_store_10 rfl (hc_g hl rfl) ?_
    refine lv_iload_n hx hb dX1_store_11 rfl (hc_g hl rfl) ?_
    refine x_callv [.int (nI j), .int v] (rest := []) C I hl.1 (met_write hfs hss h hj) (xw_write C.1.2.2.2.2 rfl rfl ⟨by decide, by decide⟩) rfl rfl (Nat.le_of_ble_eq_true rfl) dX1_store_12 (fun mem_3 lin_3 chg_3 wrd_3 rs_3 H locs hp I => ?_)
    obtain ⟨h3, rfl⟩ := hp
    refine lv_iconst (v := 0) hx hb dX1_store_15 (by decide) ?_
    exact ret _ _ _ _ _ _ _ _ _ _ (⟨rfl, h3, rfl⟩) I dX1_store_16
  · exact absurd rfl c1
theorem met_store {l : Launch} {D : va_G} {ad : Nat → Nat} {cA : Nat → ClassId} {fs ss : Nat} {la : Int32} {mem lin chg wrd : Nat → Int32} {rs : Int32} {M : Nat → Int32} {a v : Int32} (hfs : fs < 2) (hss : ss < 2) (h : hInv fs ss M mem lin chg wrd) : xMi l yX1_store cX1_store 3 .int (rmF 8 182) D ad cA fs ss la mem lin chg wrd rs [.ref (ad 0), .int a, .int v] (xPost fs ss (sp_store M rs a v)) := by
  rcases pk_ix a (n := 256) (by decide) with q | q | ⟨j, hj, rfl⟩
  · exact met_store_bad hfs hss h (Or.inl q)
  · exact met_store_bad hfs hss h (Or.inr q)
  · exact met_store_good hfs hss h hj
set_option maxHeartbeats 4000000 in
theorem met_loadByte_bad {l : Launch} {D : va_G} {ad : Nat → Nat} {cA : Nat → ClassId} {fs ss : Nat} {la : Int32} {mem lin chg wrd : Nat → Int32} {rs : Int32} {M : Nat → Int32} {a sg : Int32} (hfs : fs < 2) (hss : ss < 2) (h : hInv fs ss M mem lin chg wrd) (hbad : spBad a 1024) : xMi l yX1_loadByte cX1_loadByte 5 .int (rmF 8 181) D ad cA fs ss la mem lin chg wrd rs [.ref (ad 0), .int a, .int sg] (xPost fs ss (sp_loadByte M rs a sg)) := by
  rw [sp_loadByte_bad hbad]
  refine xMi_of rfl (by decide) (Nat.le_of_ble_eq_true rfl) (fun _ _ _ _ _ _ _ => rfl) ?_
  intro p e s m args below meth c Q A H0 ls C I hl ret
  have hx := C.1.1
  have hb := C.1.2.1
  have hl : lv_has ls 5 [(0, .ref (ad 0)), (1, .int a), (2, .int sg)] := hl
  refine lv_iload_n hx hb dX1_loadByte_0 rfl (hc_g hl rfl) ?_
  refine lv_if_lt (tgt := 11) hx hb dX1_loadByte_1 (by decide) (fun c1 => ?_) (fun c1 => ?_)
  · refine lv_iconst (v := -1) hx hb dX1_loadByte_11 (by decide) ?_
    exact ret _ _ _ _ _ _ _ _ _ _ (⟨rfl, h, rfl⟩) I dX1_loadByte_12
  · refine lv_iload_n hx hb dX1_loadByte_4 rfl (hc_g hl rfl) ?_
    refine lv_sipush (v := nI 1023) hx hb dX1_loadByte_5 (by decide) ?_
    refine lv_icmp_le (tgt := 13) hx hb dX1_loadByte_8 (by decide) (fun c2 => ?_) (fun c2 => ?_)
    · exact absurd c2 (hx_1024 (Or.resolve_left hbad c1))
    · refine lv_iconst (v := -1) hx hb dX1_loadByte_11 (by decide) ?_
      exact ret _ _ _ _ _ _ _ _ _ _ (⟨rfl, h, rfl⟩) I dX1_loadByte_12
set_option maxHeartbeats 4000000 in
theorem met_loadByte_good {l : Launch} {D : va_G} {ad : Nat → Nat} {cA : Nat → ClassId} {fs ss : Nat} {la : Int32} {mem lin chg wrd : Nat → Int32} {rs : Int32} {M : Nat → Int32} {sg : Int32} {j : Nat} (hfs : fs < 2) (hss : ss < 2) (h : hInv fs ss M mem lin chg wrd) (hj : j < 1024) : xMi l yX1_loadByte cX1_loadByte 5 .int (rmF 8 181) D ad cA fs ss la mem lin chg wrd rs [.ref (ad 0), .int (nI j), .int sg] (xPost fs ss (sp_loadByte M rs (nI j) sg)) := by
  rw [sp_loadByte_good hj]
  refine xMi_of rfl (by decide) (Nat.le_of_ble_eq_true rfl) (fun _ _ _ _ _ _ _ => rfl) ?_
  intro p e s m args below meth c Q A H0 ls C I hl ret
  have hx := C.1.1
  have hb := C.1.2.1
  have hl : lv_has ls 5 [(0, .ref (ad 0)), (1, .int (nI j)), (2, .int sg)] := hl
  refine lv_iload_n hx hb dX1_loadByte_0 rfl (hc_g hl rfl) ?_
  refine lv_if_lt (tgt := 11) hx hb dX1_loadByte_1 (by decide) (fun c1 => ?_) (fun c1 => ?_)
  · exact absurd c1 (nI_pos (by omega))
  · refine lv_iload_n hx hb dX1_loadByte_4 rfl (hc_g hl rfl) ?_
    refine lv_sipush (v := nI 1023) hx hb dX1_loadByte_5 (by decide) ?_
    refine lv_icmp_le (tgt := 13) hx hb dX1_loadByte_8 (by decide) (fun c2 => ?_) (fun c2 => ?_)
    · refine lv_aload_n hx hb dX1_loadByte_13 rfl (hc_g hl rfl) ?_
      refine lv_iload_n hx hb dX1_loadByte_14 rfl (hc_g hl rfl) ?_
      refine lv_iconst (v := nI 2) hx hb dX1_loadByte_15 (by decide) ?_
      refine lv_ishr hx hb dX1_loadByte_16 ?_
      refine hc_re (nI (j / 4)) (hx_sh2 (by omega)) ?_
      refine x_calli [.int (nI (j / 4))] (rest := []) C I hl.1 (met_read hfs hss h (by omega)) (xw_read C.1.2.2.2.2 rfl rfl ⟨by decide, by decide⟩) rfl rfl (Nat.le_of_ble_eq_true rfl) dX1_loadByte_17 (fun r_2 mem_2 lin_2 chg_2 wrd_2 rs_2 H locs hp I => ?_)
      obtain ⟨rfl, h2, rfl⟩ := hp
      refine lv_istore_n (lv' := [(3, .int (M (j / 4))), (0, .ref (ad 0)), (1, .int (nI j)), (2, .int sg)]) hx hb dX1_loadByte_20 rfl hl (by decide) rfl (fun ls hl => ?_)
      refine lv_iload_n hx hb dX1_loadByte_21 rfl (hc_g hl rfl) ?_
      refine lv_bipush (v := nI 8) hx hb dX1_loadByte_22 (by decide) ?_
      refine lv_iload_n hx hb dX1_loadByte_24 rfl (hc_g hl rfl) ?_
      refine lv_iconst (v := nI 3) hx hb dX1_loadByte_25 (by decide) ?_
      refine lv_iand hx hb dX1_loadByte_26 ?_
      refine hc_re (nI (j % 4)) (hx_a3 (by omega)) ?_
      refine hc_mulN hx hb dX1_loadByte_27 ?_
      refine lv_ishr hx hb dX1_loadByte_28 ?_
      refine lv_sipush (v := nI 255) hx hb dX1_loadByte_29 (by decide) ?_
      refine lv_iand hx hb dX1_loadByte_32 ?_
      refine hc_re (sp_b (M (j / 4)) j) (rfl) ?_
      refine lv_istore (lv' := [(4, .int (sp_b (M (j / 4)) j)), (3, .int (M (j / 4))), (0, .ref (ad 0)), (1, .int (nI j)), (2, .int sg)]) hx hb dX1_loadByte_33 hl (by decide) rfl (fun ls hl => ?_)
      refine lv_iload_n hx hb dX1_loadByte_35 rfl (hc_g hl rfl) ?_
      refine lv_if_eq (tgt := 55) hx hb dX1_loadByte_36 (by decide) (fun c3 => ?_) (fun c3 => ?_)
      · refine lv_iload hx hb dX1_loadByte_55 (hc_g hl rfl) ?_
        exact ret _ _ _ _ _ _ _ _ _ _ (⟨(sp_byte_0 c3).symm, h2, rfl⟩) I dX1_loadByte_57
      · refine lv_iload hx hb dX1_loadByte_39 (hc_g hl rfl) ?_
        refine lv_bipush (v := nI 127) hx hb dX1_loadByte_41 (by decide) ?_
        refine lv_icmp_le (tgt := 55) hx hb dX1_loadByte_43 (by decide) (fun c4 => ?_) (fun c4 => ?_)
        · refine lv_iload hx hb dX1_loadByte_55 (hc_g hl rfl) ?_
          exact ret _ _ _ _ _ _ _ _ _ _ (⟨(sp_byte_lo c4).symm, h2, rfl⟩) I dX1_loadByte_57
        · refine lv_iload hx hb dX1_loadByte_46 (hc_g hl rfl) ?_
          refine lv_sipush (v := nI 256) hx hb dX1_loadByte_48 (by decide) ?_
          refine lv_isub hx hb dX1_loadByte_51 ?_
          refine lv_goto (tgt := 57) hx hb dX1_loadByte_52 (by decide) ?_
          exact ret _ _ _ _ _ _ _ _ _ _ (⟨(sp_byte_hi c3 c4).symm, h2, rfl⟩) I dX1_loadByte_57
    · exact absurd (nI_le (by omega) (by decide)) c2
theorem met_loadByte {l : Launch} {D : va_G} {ad : Nat → Nat} {cA : Nat → ClassId} {fs ss : Nat} {la : Int32} {mem lin chg wrd : Nat → Int32} {rs : Int32} {M : Nat → Int32} {a sg : Int32} (hfs : fs < 2) (hss : ss < 2) (h : hInv fs ss M mem lin chg wrd) : xMi l yX1_loadByte cX1_loadByte 5 .int (rmF 8 181) D ad cA fs ss la mem lin chg wrd rs [.ref (ad 0), .int a, .int sg] (xPost fs ss (sp_loadByte M rs a sg)) := by
  rcases pk_ix a (n := 1024) (by decide) with q | q | ⟨j, hj, rfl⟩
  · exact met_loadByte_bad hfs hss h (Or.inl q)
  · exact met_loadByte_bad hfs hss h (Or.inr q)
  · exact met_loadByte_good hfs hss h hj
set_option maxHeartbeats 4000000 in
theorem met_storeByte_bad {l : Launch} {D : va_G} {ad : Nat → Nat} {cA : Nat → ClassId} {fs ss : Nat} {la : Int32} {mem lin chg wrd : Nat → Int32} {rs : Int32} {M : Nat → Int32} {a v : Int32} (hfs : fs < 2) (hss : ss < 2) (h : hInv fs ss M mem lin chg wrd) (hbad : spBad a 1024) : xMi l yX1_storeByte cX1_storeByte 6 .int (rmF 8 182) D ad cA fs ss la mem lin chg wrd rs [.ref (ad 0), .int a, .int v] (xPost fs ss (sp_storeByte M rs a v)) := by
  rw [sp_storeByte_bad hbad]
  refine xMi_of rfl (by decide) (Nat.le_of_ble_eq_true rfl) (fun _ _ _ _ _ _ _ => rfl) ?_
  intro p e s m args below meth c Q A H0 ls C I hl ret
  have hx := C.1.1
  have hb := C.1.2.1
  have hl : lv_has ls 6 [(0, .ref (ad 0)), (1, .int a), (2, .int v)] := hl
  refine lv_iload_n hx hb dX1_storeByte_0 rfl (hc_g hl rfl) ?_
  refine lv_if_lt (tgt := 11) hx hb dX1_storeByte_1 (by decide) (fun c1 => ?_) (fun c1 => ?_)
  · refine lv_iconst (v := -1) hx hb dX1_storeByte_11 (by decide) ?_
    exact ret _ _ _ _ _ _ _ _ _ _ (⟨rfl, h, rfl⟩) I dX1_storeByte_12
  · refine lv_iload_n hx hb dX1_storeByte_4 rfl (hc_g hl rfl) ?_
    refine lv_sipush (v := nI 1023) hx hb dX1_storeByte_5 (by decide) ?_
    refine lv_icmp_le (tgt := 13) hx hb dX1_storeByte_8 (by decide) (fun c2 => ?_) (fun c2 => ?_)
    · exact absurd c2 (hx_1024 (Or.resolve_left hbad c1))
    · refine lv_iconst (v := -1) hx hb dX1_storeByte_11 (by decide) ?_
      exact ret _ _ _ _ _ _ _ _ _ _ (⟨rfl, h, rfl⟩) I dX1_storeByte_12
set_option maxHeartbeats 4000000 in
theorem met_storeByte_good {l : Launch} {D : va_G} {ad : Nat → Nat} {cA : Nat → ClassId} {fs ss : Nat} {la : Int32} {mem lin chg wrd : Nat → Int32} {rs : Int32} {M : Nat → Int32} {v : Int32} {j : Nat} (hfs : fs < 2) (hss : ss < 2) (h : hInv fs ss M mem lin chg wrd) (hj : j < 1024) : xMi l yX1_storeByte cX1_storeByte 6 .int (rmF 8 182) D ad cA fs ss la mem lin chg wrd rs [.ref (ad 0), .int (nI j), .int v] (xPost fs ss (sp_storeByte M rs (nI j) v)) := by
  rw [sp_storeByte_good hj]
  refine xMi_of rfl (by decide) (Nat.le_of_ble_eq_true rfl) (fun _ _ _ _ _ _ _ => rfl) ?_
  intro p e s m args below meth c Q A H0 ls C I hl ret
  have hx := C.1.1
  have hb := C.1.2.1
  have hl : lv_has ls 6 [(0, .ref (ad 0)), (1, .int (nI j)), (2, .int v)] := hl
  refine lv_iload_n hx hb dX1_storeByte_0 rfl (hc_g hl rfl) ?_
  refine lv_if_lt (tgt := 11) hx hb dX1_storeByte_1 (by decide) (fun c1 => ?_) (fun c1 => ?_)
  · exact absurd c1 (nI_pos (by omega))
  · refine lv_iload_n hx hb dX1_storeByte_4 rfl (hc_g hl rfl) ?_
    refine lv_sipush (v := nI 1023) hx hb dX1_storeByte_5 (by decide) ?_
    refine lv_icmp_le (tgt := 13) hx hb dX1_storeByte_8 (by decide) (fun c2 => ?_) (fun c2 => ?_)
    · refine lv_iload_n hx hb dX1_storeByte_13 rfl (hc_g hl rfl) ?_
      refine lv_iconst (v := nI 2) hx hb dX1_storeByte_14 (by decide) ?_
      refine lv_ishr hx hb dX1_storeByte_15 ?_
      refine hc_re (nI (j / 4)) (hx_sh2 (by omega)) ?_
      refine lv_istore_n (lv' := [(3, .int (nI (j / 4))), (0, .ref (ad 0)), (1, .int (nI j)), (2, .int v)]) hx hb dX1_storeByte_16 rfl hl (by decide) rfl (fun ls hl => ?_)
      refine lv_bipush (v := nI 8) hx hb dX1_storeByte_17 (by decide) ?_
      refine lv_iload_n hx hb dX1_storeByte_19 rfl (hc_g hl rfl) ?_
      refine lv_iconst (v := nI 3) hx hb dX1_storeByte_20 (by decide) ?_
      refine lv_iand hx hb dX1_storeByte_21 ?_
      refine hc_re (nI (j % 4)) (hx_a3 (by omega)) ?_
      refine hc_mulN hx hb dX1_storeByte_22 ?_
      refine lv_istore (lv' := [(4, .int (nI (8 * (j % 4)))), (3, .int (nI (j / 4))), (0, .ref (ad 0)), (1, .int (nI j)), (2, .int v)]) hx hb dX1_storeByte_23 hl (by decide) rfl (fun ls hl => ?_)
      refine lv_aload_n hx hb dX1_storeByte_25 rfl (hc_g hl rfl) ?_
      refine lv_iload_n hx hb dX1_storeByte_26 rfl (hc_g hl rfl) ?_
      refine x_calli [.int (nI (j / 4))] (rest := []) C I hl.1 (met_read hfs hss h (by omega)) (xw_read C.1.2.2.2.2 rfl rfl ⟨by decide, by decide⟩) rfl rfl (Nat.le_of_ble_eq_true rfl) dX1_storeByte_27 (fun r_2 mem_2 lin_2 chg_2 wrd_2 rs_2 H locs hp I => ?_)
      obtain ⟨rfl, h2, rfl⟩ := hp
      refine lv_sipush (v := nI 255) hx hb dX1_storeByte_30 (by decide) ?_
      refine lv_iload hx hb dX1_storeByte_33 (hc_g hl rfl) ?_
      refine lv_ishl hx hb dX1_storeByte_35 ?_
      refine lv_iconst (v := -1) hx hb dX1_storeByte_36 (by decide) ?_
      refine lv_ixor hx hb dX1_storeByte_37 ?_
      refine lv_iand hx hb dX1_storeByte_38 ?_
      refine lv_iload_n hx hb dX1_storeByte_39 rfl (hc_g hl rfl) ?_
      refine lv_sipush (v := nI 255) hx hb dX1_storeByte_40 (by decide) ?_
      refine lv_iand hx hb dX1_storeByte_43 ?_
      refine lv_iload hx hb dX1_storeByte_44 (hc_g hl rfl) ?_
      refine lv_ishl hx hb dX1_storeByte_46 ?_
      refine lv_ior hx hb dX1_storeByte_47 ?_
      refine hc_re (sp_w (M (j / 4)) j v) (rfl) ?_
      refine lv_istore (lv' := [(5, .int (sp_w (M (j / 4)) j v)), (4, .int (nI (8 * (j % 4)))), (3, .int (nI (j / 4))), (0, .ref (ad 0)), (1, .int (nI j)), (2, .int v)]) hx hb dX1_storeByte_48 hl (by decide) rfl (fun ls hl => ?_)
      refine lv_aload_n hx hb dX1_storeByte_50 rfl (hc_g hl rfl) ?_
      refine lv_iload_n hx hb dX1_storeByte_51 rfl (hc_g hl rfl) ?_
      refine lv_iload hx hb dX1_storeByte_52 (hc_g hl rfl) ?_
      refine x_callv [.int (nI (j / 4)), .int (sp_w (M (j / 4)) j v)] (rest := []) C I hl.1 (met_write hfs hss h2 (by omega)) (xw_write C.1.2.2.2.2 rfl rfl ⟨by decide, by decide⟩) rfl rfl (Nat.le_of_ble_eq_true rfl) dX1_storeByte_54 (fun mem_3 lin_3 chg_3 wrd_3 rs_3 H locs hp I => ?_)
      obtain ⟨h3, rfl⟩ := hp
      refine lv_iconst (v := 0) hx hb dX1_storeByte_57 (by decide) ?_
      exact ret _ _ _ _ _ _ _ _ _ _ (⟨rfl, h3, rfl⟩) I dX1_storeByte_58
    · exact absurd (nI_le (by omega) (by decide)) c2
theorem met_storeByte {l : Launch} {D : va_G} {ad : Nat → Nat} {cA : Nat → ClassId} {fs ss : Nat} {la : Int32} {mem lin chg wrd : Nat → Int32} {rs : Int32} {M : Nat → Int32} {a v : Int32} (hfs : fs < 2) (hss : ss < 2) (h : hInv fs ss M mem lin chg wrd) : xMi l yX1_storeByte cX1_storeByte 6 .int (rmF 8 182) D ad cA fs ss la mem lin chg wrd rs [.ref (ad 0), .int a, .int v] (xPost fs ss (sp_storeByte M rs a v)) := by
  rcases pk_ix a (n := 1024) (by decide) with q | q | ⟨j, hj, rfl⟩
  · exact met_storeByte_bad hfs hss h (Or.inl q)
  · exact met_storeByte_bad hfs hss h (Or.inr q)
  · exact met_storeByte_good hfs hss h hj
set_option maxHeartbeats 4000000 in
theorem met_swap_bad {l : Launch} {D : va_G} {ad : Nat → Nat} {cA : Nat → ClassId} {fs ss : Nat} {la : Int32} {mem lin chg wrd : Nat → Int32} {rs : Int32} {M : Nat → Int32} {a v : Int32} (hfs : fs < 2) (hss : ss < 2) (h : hInv fs ss M mem lin chg wrd) (hbad : spBad a 256) : xMi l yX1_swap cX1_swap 4 .int (rmF 8 182) D ad cA fs ss la mem lin chg wrd rs [.ref (ad 0), .int a, .int v] (xPost fs ss (sp_swap M rs a v)) := by
  rw [sp_swap_bad hbad]
  refine xMi_of rfl (by decide) (Nat.le_of_ble_eq_true rfl) (fun _ _ _ _ _ _ _ => rfl) ?_
  intro p e s m args below meth c Q A H0 ls C I hl ret
  have hx := C.1.1
  have hb := C.1.2.1
  have hl : lv_has ls 4 [(0, .ref (ad 0)), (1, .int a), (2, .int v)] := hl
  refine lv_iload_n hx hb dX1_swap_0 rfl (hc_g hl rfl) ?_
  refine x_callsr [.int a] (rest := []) C I hl.1 (met_bad_bad hbad) (xw_bad C.1.2.2.2.2 rfl rfl ⟨by decide, by decide⟩) rfl rfl (Nat.le_of_ble_eq_true rfl) dX1_swap_1 (fun r_1 H locs hr_1 I => ?_)
  subst hr_1
  refine lv_if_eq (tgt := 9) hx hb dX1_swap_4 (by decide) (fun c1 => ?_) (fun c1 => ?_)
  · exact absurd c1 (by decide)
  · refine lv_iconst (v := -1) hx hb dX1_swap_7 (by decide) ?_
    exact ret _ _ _ _ _ _ _ _ _ _ (⟨rfl, h, rfl⟩) I dX1_swap_8
set_option maxHeartbeats 4000000 in
theorem met_swap_good {l : Launch} {D : va_G} {ad : Nat → Nat} {cA : Nat → ClassId} {fs ss : Nat} {la : Int32} {mem lin chg wrd : Nat → Int32} {rs : Int32} {M : Nat → Int32} {v : Int32} {j : Nat} (hfs : fs < 2) (hss : ss < 2) (h : hInv fs ss M mem lin chg wrd) (hj : j < 256) : xMi l yX1_swap cX1_swap 4 .int (rmF 8 182) D ad cA fs ss la mem lin chg wrd rs [.ref (ad 0), .int (nI j), .int v] (xPost fs ss (sp_swap M rs (nI j) v)) := by
  rw [sp_swap_good hj]
  refine xMi_of rfl (by decide) (Nat.le_of_ble_eq_true rfl) (fun _ _ _ _ _ _ _ => rfl) ?_
  intro p e s m args below meth c Q A H0 ls C I hl ret
  have hx := C.1.1
  have hb := C.1.2.1
  have hl : lv_has ls 4 [(0, .ref (ad 0)), (1, .int (nI j)), (2, .int v)] := hl
  refine lv_iload_n hx hb dX1_swap_0 rfl (hc_g hl rfl) ?_
  refine x_callsr [.int (nI j)] (rest := []) C I hl.1 (met_bad_good hj) (xw_bad C.1.2.2.2.2 rfl rfl ⟨by decide, by decide⟩) rfl rfl (Nat.le_of_ble_eq_true rfl) dX1_swap_1 (fun r_1 H locs hr_1 I => ?_)
  subst hr_1
  refine lv_if_eq (tgt := 9) hx hb dX1_swap_4 (by decide) (fun c1 => ?_) (fun c1 => ?_)
  · refine lv_aload_n hx hb dX1_swap_9 rfl (hc_g hl rfl) ?_
    refine lv_iload_n hx hb dX1_swap_10 rfl (hc_g hl rfl) ?_
    refine x_calli [.int (nI j)] (rest := []) C I hl.1 (met_read hfs hss h hj) (xw_read C.1.2.2.2.2 rfl rfl ⟨by decide, by decide⟩) rfl rfl (Nat.le_of_ble_eq_true rfl) dX1_swap_11 (fun r_2 mem_2 lin_2 chg_2 wrd_2 rs_2 H locs hp I => ?_)
    obtain ⟨rfl, h2, rfl⟩ := hp
    refine lv_istore_n (lv' := [(3, .int (M j)), (0, .ref (ad 0)), (1, .int (nI j)), (2, .int v)]) hx hb dX1_swap_14 rfl hl (by decide) rfl (fun ls hl => ?_)
    refine lv_aload_n hx hb dX1_swap_15 rfl (hc_g hl rfl) ?_
    refine lv_iload_n hx hb dX1_swap_16 rfl (hc_g hl rfl) ?_
    refine lv_iload_n hx hb dX1_swap_17 rfl (hc_g hl rfl) ?_
    refine x_callv [.int (nI j), .int v] (rest := []) C I hl.1 (met_write hfs hss h2 hj) (xw_write C.1.2.2.2.2 rfl rfl ⟨by decide, by decide⟩) rfl rfl (Nat.le_of_ble_eq_true rfl) dX1_swap_18 (fun mem_3 lin_3 chg_3 wrd_3 rs_3 H locs hp I => ?_)
    obtain ⟨h3, rfl⟩ := hp
    refine lv_iload_n hx hb dX1_swap_21 rfl (hc_g hl rfl) ?_
    exact ret _ _ _ _ _ _ _ _ _ _ (⟨rfl, h3, rfl⟩) I dX1_swap_22
  · exact absurd rfl c1
theorem met_swap {l : Launch} {D : va_G} {ad : Nat → Nat} {cA : Nat → ClassId} {fs ss : Nat} {la : Int32} {mem lin chg wrd : Nat → Int32} {rs : Int32} {M : Nat → Int32} {a v : Int32} (hfs : fs < 2) (hss : ss < 2) (h : hInv fs ss M mem lin chg wrd) : xMi l yX1_swap cX1_swap 4 .int (rmF 8 182) D ad cA fs ss la mem lin chg wrd rs [.ref (ad 0), .int a, .int v] (xPost fs ss (sp_swap M rs a v)) := by
  rcases pk_ix a (n := 256) (by decide) with q | q | ⟨j, hj, rfl⟩
  · exact met_swap_bad hfs hss h (Or.inl q)
  · exact met_swap_bad hfs hss h (Or.inr q)
  · exact met_swap_good hfs hss h hj
set_option maxHeartbeats 4000000 in
theorem met_addTo_bad {l : Launch} {D : va_G} {ad : Nat → Nat} {cA : Nat → ClassId} {fs ss : Nat} {la : Int32} {mem lin chg wrd : Nat → Int32} {rs : Int32} {M : Nat → Int32} {a v : Int32} (hfs : fs < 2) (hss : ss < 2) (h : hInv fs ss M mem lin chg wrd) (hbad : spBad a 256) : xMi l yX1_addTo cX1_addTo 4 .int (rmF 8 182) D ad cA fs ss la mem lin chg wrd rs [.ref (ad 0), .int a, .int v] (xPost fs ss (sp_addTo M rs a v)) := by
  rw [sp_addTo_bad hbad]
  refine xMi_of rfl (by decide) (Nat.le_of_ble_eq_true rfl) (fun _ _ _ _ _ _ _ => rfl) ?_
  intro p e s m args below meth c Q A H0 ls C I hl ret
  have hx := C.1.1
  have hb := C.1.2.1
  have hl : lv_has ls 4 [(0, .ref (ad 0)), (1, .int a), (2, .int v)] := hl
  refine lv_iload_n hx hb dX1_addTo_0 rfl (hc_g hl rfl) ?_
  refine x_callsr [.int a] (rest := []) C I hl.1 (met_bad_bad hbad) (xw_bad C.1.2.2.2.2 rfl rfl ⟨by decide, by decide⟩) rfl rfl (Nat.le_of_ble_eq_true rfl) dX1_addTo_1 (fun r_1 H locs hr_1 I => ?_)
  subst hr_1
  refine lv_if_eq (tgt := 9) hx hb dX1_addTo_4 (by decide) (fun c1 => ?_) (fun c1 => ?_)
  · exact absurd c1 (by decide)
  · refine lv_iconst (v := -1) hx hb dX1_addTo_7 (by decide) ?_
    exact ret _ _ _ _ _ _ _ _ _ _ (⟨rfl, h, rfl⟩) I dX1_addTo_8
set_option maxHeartbeats 4000000 in
theorem met_addTo_good {l : Launch} {D : va_G} {ad : Nat → Nat} {cA : Nat → ClassId} {fs ss : Nat} {la : Int32} {mem lin chg wrd : Nat → Int32} {rs : Int32} {M : Nat → Int32} {v : Int32} {j : Nat} (hfs : fs < 2) (hss : ss < 2) (h : hInv fs ss M mem lin chg wrd) (hj : j < 256) : xMi l yX1_addTo cX1_addTo 4 .int (rmF 8 182) D ad cA fs ss la mem lin chg wrd rs [.ref (ad 0), .int (nI j), .int v] (xPost fs ss (sp_addTo M rs (nI j) v)) := by
  rw [sp_addTo_good hj]
  refine xMi_of rfl (by decide) (Nat.le_of_ble_eq_true rfl) (fun _ _ _ _ _ _ _ => rfl) ?_
  intro p e s m args below meth c Q A H0 ls C I hl ret
  have hx := C.1.1
  have hb := C.1.2.1
  have hl : lv_has ls 4 [(0, .ref (ad 0)), (1, .int (nI j)), (2, .int v)] := hl
  refine lv_iload_n hx hb dX1_addTo_0 rfl (hc_g hl rfl) ?_
  refine x_callsr [.int (nI j)] (rest := []) C I hl.1 (met_bad_good hj) (xw_bad C.1.2.2.2.2 rfl rfl ⟨by decide, by decide⟩) rfl rfl (Nat.le_of_ble_eq_true rfl) dX1_addTo_1 (fun r_1 H locs hr_1 I => ?_)
  subst hr_1
  refine lv_if_eq (tgt := 9) hx hb dX1_addTo_4 (by decide) (fun c1 => ?_) (fun c1 => ?_)
  · refine lv_aload_n hx hb dX1_addTo_9 rfl (hc_g hl rfl) ?_
    refine lv_iload_n hx hb dX1_addTo_10 rfl (hc_g hl rfl) ?_
    refine x_calli [.int (nI j)] (rest := []) C I hl.1 (met_read hfs hss h hj) (xw_read C.1.2.2.2.2 rfl rfl ⟨by decide, by decide⟩) rfl rfl (Nat.le_of_ble_eq_true rfl) dX1_addTo_11 (fun r_2 mem_2 lin_2 chg_2 wrd_2 rs_2 H locs hp I => ?_)
    obtain ⟨rfl, h2, rfl⟩ := hp
    refine lv_iload_n hx hb dX1_addTo_14 rfl (hc_g hl rfl) ?_
    refine lv_iadd hx hb dX1_addTo_15 ?_
    refine lv_istore_n (lv' := [(3, .int ((M j) + v)), (0, .ref (ad 0)), (1, .int (nI j)), (2, .int v)]) hx hb dX1_addTo_16 rfl hl (by decide) rfl (fun ls hl => ?_)
    refine lv_aload_n hx hb dX1_addTo_17 rfl (hc_g hl rfl) ?_
    refine lv_iload_n hx hb dX1_addTo_18 rfl (hc_g hl rfl) ?_
    refine lv_iload_n hx hb dX1_addTo_19 rfl (hc_g hl rfl) ?_
    refine x_callv [.int (nI j), .int ((M j) + v)] (rest := []) C I hl.1 (met_write hfs hss h2 hj) (xw_write C.1.2.2.2.2 rfl rfl ⟨by decide, by decide⟩) rfl rfl (Nat.le_of_ble_eq_true rfl) dX1_addTo_20 (fun mem_3 lin_3 chg_3 wrd_3 rs_3 H locs hp I => ?_)
    obtain ⟨h3, rfl⟩ := hp
    refine lv_iload_n hx hb dX1_addTo_23 rfl (hc_g hl rfl) ?_
    exact ret _ _ _ _ _ _ _ _ _ _ (⟨rfl, h3, rfl⟩) I dX1_addTo_24
  · exact absurd rfl c1
theorem met_addTo {l : Launch} {D : va_G} {ad : Nat → Nat} {cA : Nat → ClassId} {fs ss : Nat} {la : Int32} {mem lin chg wrd : Nat → Int32} {rs : Int32} {M : Nat → Int32} {a v : Int32} (hfs : fs < 2) (hss : ss < 2) (h : hInv fs ss M mem lin chg wrd) : xMi l yX1_addTo cX1_addTo 4 .int (rmF 8 182) D ad cA fs ss la mem lin chg wrd rs [.ref (ad 0), .int a, .int v] (xPost fs ss (sp_addTo M rs a v)) := by
  rcases pk_ix a (n := 256) (by decide) with q | q | ⟨j, hj, rfl⟩
  · exact met_addTo_bad hfs hss h (Or.inl q)
  · exact met_addTo_bad hfs hss h (Or.inr q)
  · exact met_addTo_good hfs hss h hj
set_option maxHeartbeats 4000000 in
theorem met_loadReserved_bad {l : Launch} {D : va_G} {ad : Nat → Nat} {cA : Nat → ClassId} {fs ss : Nat} {la : Int32} {mem lin chg wrd : Nat → Int32} {rs : Int32} {M : Nat → Int32} {a : Int32} (hfs : fs < 2) (hss : ss < 2) (h : hInv fs ss M mem lin chg wrd) (hbad : spBad a 256) : xMi l yX1_loadReserved cX1_loadReserved 2 .int (rmF 8 181) D ad cA fs ss la mem lin chg wrd rs [.ref (ad 0), .int a] (xPost fs ss (sp_loadReserved M rs a)) := by
  rw [sp_loadReserved_bad hbad]
  refine xMi_of rfl (by decide) (Nat.le_of_ble_eq_true rfl) (fun _ _ _ _ _ _ _ => rfl) ?_
  intro p e s m args below meth c Q A H0 ls C I hl ret
  have hx := C.1.1
  have hb := C.1.2.1
  have hl : lv_has ls 2 [(0, .ref (ad 0)), (1, .int a)] := hl
  refine lv_iload_n hx hb dX1_loadReserved_0 rfl (hc_g hl rfl) ?_
  refine x_callsr [.int a] (rest := []) C I hl.1 (met_bad_bad hbad) (xw_bad C.1.2.2.2.2 rfl rfl ⟨by decide, by decide⟩) rfl rfl (Nat.le_of_ble_eq_true rfl) dX1_loadReserved_1 (fun r_1 H locs hr_1 I => ?_)
  subst hr_1
  refine lv_if_eq (tgt := 9) hx hb dX1_loadReserved_4 (by decide) (fun c1 => ?_) (fun c1 => ?_)
  · exact absurd c1 (by decide)
  · refine lv_iconst (v := -1) hx hb dX1_loadReserved_7 (by decide) ?_
    exact ret _ _ _ _ _ _ _ _ _ _ (⟨rfl, h, rfl⟩) I dX1_loadReserved_8
set_option maxHeartbeats 4000000 in
theorem met_loadReserved_good {l : Launch} {D : va_G} {ad : Nat → Nat} {cA : Nat → ClassId} {fs ss : Nat} {la : Int32} {mem lin chg wrd : Nat → Int32} {rs : Int32} {M : Nat → Int32}  {j : Nat} (hfs : fs < 2) (hss : ss < 2) (h : hInv fs ss M mem lin chg wrd) (hj : j < 256) : xMi l yX1_loadReserved cX1_loadReserved 2 .int (rmF 8 181) D ad cA fs ss la mem lin chg wrd rs [.ref (ad 0), .int (nI j)] (xPost fs ss (sp_loadReserved M rs (nI j))) := by
  rw [sp_loadReserved_good hj]
  refine xMi_of rfl (by decide) (Nat.le_of_ble_eq_true rfl) (fun _ _ _ _ _ _ _ => rfl) ?_
  intro p e s m args below meth c Q A H0 ls C I hl ret
  have hx := C.1.1
  have hb := C.1.2.1
  have hl : lv_has ls 2 [(0, .ref (ad 0)), (1, .int (nI j))] := hl
  refine lv_iload_n hx hb dX1_loadReserved_0 rfl (hc_g hl rfl) ?_
  refine x_callsr [.int (nI j)] (rest := []) C I hl.1 (met_bad_good hj) (xw_bad C.1.2.2.2.2 rfl rfl ⟨by decide, by decide⟩) rfl rfl (Nat.le_of_ble_eq_true rfl) dX1_loadReserved_1 (fun r_1 H locs hr_1 I => ?_)
  subst hr_1
  refine lv_if_eq (tgt := 9) hx hb dX1_loadReserved_4 (by decide) (fun c1 => ?_) (fun c1 => ?_)
  · refine lv_aload_n hx hb dX1_loadReserved_9 rfl (hc_g hl rfl) ?_
    refine lv_iload_n hx hb dX1_loadReserved_10 rfl (hc_g hl rfl) ?_
    refine xp_rs C I dX1_loadReserved_11 (fun H locs I => ?_)
    refine lv_aload_n hx hb dX1_loadReserved_14 rfl (hc_g hl rfl) ?_
    refine lv_iload_n hx hb dX1_loadReserved_15 rfl (hc_g hl rfl) ?_
    refine x_calli [.int (nI j)] (rest := []) C I hl.1 (met_read hfs hss h hj) (xw_read C.1.2.2.2.2 rfl rfl ⟨by decide, by decide⟩) rfl rfl (Nat.le_of_ble_eq_true rfl) dX1_loadReserved_16 (fun r_2 mem_2 lin_2 chg_2 wrd_2 rs_2 H locs hp I => ?_)
    obtain ⟨rfl, h2, rfl⟩ := hp
    exact ret _ _ _ _ _ _ _ _ _ _ (⟨rfl, h2, rfl⟩) I dX1_loadReserved_19
  · exact absurd rfl c1
theorem met_loadReserved {l : Launch} {D : va_G} {ad : Nat → Nat} {cA : Nat → ClassId} {fs ss : Nat} {la : Int32} {mem lin chg wrd : Nat → Int32} {rs : Int32} {M : Nat → Int32} {a : Int32} (hfs : fs < 2) (hss : ss < 2) (h : hInv fs ss M mem lin chg wrd) : xMi l yX1_loadReserved cX1_loadReserved 2 .int (rmF 8 181) D ad cA fs ss la mem lin chg wrd rs [.ref (ad 0), .int a] (xPost fs ss (sp_loadReserved M rs a)) := by
  rcases pk_ix a (n := 256) (by decide) with q | q | ⟨j, hj, rfl⟩
  · exact met_loadReserved_bad hfs hss h (Or.inl q)
  · exact met_loadReserved_bad hfs hss h (Or.inr q)
  · exact met_loadReserved_good hfs hss h hj
set_option maxHeartbeats 4000000 in
theorem met_storeConditional_bad {l : Launch} {D : va_G} {ad : Nat → Nat} {cA : Nat → ClassId} {fs ss : Nat} {la : Int32} {mem lin chg wrd : Nat → Int32} {rs : Int32} {M : Nat → Int32} {a v : Int32} (hfs : fs < 2) (hss : ss < 2) (h : hInv fs ss M mem lin chg wrd) (hbad : spBad a 256) : xMi l yX1_storeConditional cX1_storeConditional 4 .int (rmF 8 182) D ad cA fs ss la mem lin chg wrd rs [.ref (ad 0), .int a, .int v] (xPost fs ss (sp_storeConditional M rs a v)) := by
  rw [sp_storeConditional_bad hbad]
  refine xMi_of rfl (by decide) (Nat.le_of_ble_eq_true rfl) (fun _ _ _ _ _ _ _ => rfl) ?_
  intro p e s m args below meth c Q A H0 ls C I hl ret
  have hx := C.1.1
  have hb := C.1.2.1
  have hl : lv_has ls 4 [(0, .ref (ad 0)), (1, .int a), (2, .int v)] := hl
  refine lv_iload_n hx hb dX1_storeConditional_0 rfl (hc_g hl rfl) ?_
  refine x_callsr [.int a] (rest := []) C I hl.1 (met_bad_bad hbad) (xw_bad C.1.2.2.2.2 rfl rfl ⟨by decide, by decide⟩) rfl rfl (Nat.le_of_ble_eq_true rfl) dX1_storeConditional_1 (fun r_1 H locs hr_1 I => ?_)
  subst hr_1
  refine lv_if_eq (tgt := 9) hx hb dX1_storeConditional_4 (by decide) (fun c1 => ?_) (fun c1 => ?_)
  · exact absurd c1 (by decide)
  · refine lv_iconst (v := -1) hx hb dX1_storeConditional_7 (by decide) ?_
    exact ret _ _ _ _ _ _ _ _ _ _ (⟨rfl, h, rfl⟩) I dX1_storeConditional_8
set_option maxHeartbeats 4000000 in
theorem met_storeConditional_good {l : Launch} {D : va_G} {ad : Nat → Nat} {cA : Nat → ClassId} {fs ss : Nat} {la : Int32} {mem lin chg wrd : Nat → Int32} {rs : Int32} {M : Nat → Int32} {v : Int32} {j : Nat} (hfs : fs < 2) (hss : ss < 2) (h : hInv fs ss M mem lin chg wrd) (hj : j < 256) : xMi l yX1_storeConditional cX1_storeConditional 4 .int (rmF 8 182) D ad cA fs ss la mem lin chg wrd rs [.ref (ad 0), .int (nI j), .int v] (xPost fs ss (sp_storeConditional M rs (nI j) v)) := by
  refine xMi_of rfl (by decide) (Nat.le_of_ble_eq_true rfl) (fun _ _ _ _ _ _ _ => rfl) ?_
  intro p e s m args below meth c Q A H0 ls C I hl ret
  have hx := C.1.1
  have hb := C.1.2.1
  have hl : lv_has ls 4 [(0, .ref (ad 0)), (1, .int (nI j)), (2, .int v)] := hl
  refine lv_iload_n hx hb dX1_storeConditional_0 rfl (hc_g hl rfl) ?_
  refine x_callsr [.int (nI j)] (rest := []) C I hl.1 (met_bad_good hj) (xw_bad C.1.2.2.2.2 rfl rfl ⟨by decide, by decide⟩) rfl rfl (Nat.le_of_ble_eq_true rfl) dX1_storeConditional_1 (fun r_1 H locs hr_1 I => ?_)
  subst hr_1
  refine lv_if_eq (tgt := 9) hx hb dX1_storeConditional_4 (by decide) (fun c1 => ?_) (fun c1 => ?_)
  · refine lv_aload_n hx hb dX1_storeConditional_9 rfl (hc_g hl rfl) ?_
    refine xg_rs C I dX1_storeConditional_10 ?_
    refine lv_iload_n hx hb dX1_storeConditional_13 rfl (hc_g hl rfl) ?_
    refine lv_icmp_ne (tgt := 21) hx hb dX1_storeConditional_14 (by decide) (fun c2 => ?_) (fun c2 => ?_)
    · refine lv_iconst (v := nI 0) hx hb dX1_storeConditional_21 (by decide) ?_
      refine lv_istore_n (lv' := [(3, .int (nI 0)), (0, .ref (ad 0)), (1, .int (nI j)), (2, .int v)]) hx hb dX1_storeConditional_22 rfl hl (by decide) rfl (fun ls hl => ?_)
      refine lv_aload_n hx hb dX1_storeConditional_23 rfl (hc_g hl rfl) ?_
      refine lv_iconst (v := -1) hx hb dX1_storeConditional_24 (by decide) ?_
      refine xp_rs C I dX1_storeConditional_25 (fun H locs I => ?_)
      refine lv_iload_n hx hb dX1_storeConditional_28 rfl (hc_g hl rfl) ?_
      refine lv_if_eq (tgt := 38) hx hb dX1_storeConditional_29 (by decide) (fun c3 => ?_) (fun c3 => ?_)
      · refine lv_iload_n hx hb dX1_storeConditional_38 rfl (hc_g hl rfl) ?_
        refine lv_if_eq (tgt := 46) hx hb dX1_storeConditional_39 (by decide) (fun c4 => ?_) (fun c4 => ?_)
        · rw [sp_storeConditional_ne hj c2] at ret
          refine lv_iconst (v := 0) hx hb dX1_storeConditional_46 (by decide) ?_
          exact ret _ _ _ _ _ _ _ _ _ _ (⟨rfl, h, rfl⟩) I dX1_storeConditional_47
        · exact absurd nI_0 c4
      · exact absurd nI_0 c3
    · refine lv_iconst (v := nI 1) hx hb dX1_storeConditional_17 (by decide) ?_
      refine lv_goto (tgt := 22) hx hb dX1_storeConditional_18 (by decide) ?_
      refine lv_istore_n (lv' := [(3, .int (nI 1)), (0, .ref (ad 0)), (1, .int (nI j)), (2, .int v)]) hx hb dX1_storeConditional_22 rfl hl (by decide) rfl (fun ls hl => ?_)
      refine lv_aload_n hx hb dX1_storeConditional_23 rfl (hc_g hl rfl) ?_
      refine lv_iconst (v := -1) hx hb dX1_storeConditional_24 (by decide) ?_
      refine xp_rs C I dX1_storeConditional_25 (fun H locs I => ?_)
      refine lv_iload_n hx hb dX1_storeConditional_28 rfl (hc_g hl rfl) ?_
      refine lv_if_eq (tgt := 38) hx hb dX1_storeConditional_29 (by decide) (fun c3 => ?_) (fun c3 => ?_)
      · exact absurd c3 (by decide)
      · refine lv_aload_n hx hb dX1_storeConditional_32 rfl (hc_g hl rfl) ?_
        refine lv_iload_n hx hb dX1_storeConditional_33 rfl (hc_g hl rfl) ?_
        refine lv_iload_n hx hb dX1_storeConditional_34 rfl (hc_g hl rfl) ?_
        refine x_callv [.int (nI j), .int v] (rest := []) C I hl.1 (met_write hfs hss h hj) (xw_write C.1.2.2.2.2 rfl rfl ⟨by decide, by decide⟩) rfl rfl (Nat.le_of_ble_eq_true rfl) dX1_storeConditional_35 (fun mem_3 lin_3 chg_3 wrd_3 rs_3 H locs hp I => ?_)
        obtain ⟨h3, rfl⟩ := hp
        refine lv_iload_n hx hb dX1_storeConditional_38 rfl (hc_g hl rfl) ?_
        refine lv_if_eq (tgt := 46) hx hb dX1_storeConditional_39 (by decide) (fun c4 => ?_) (fun c4 => ?_)
        · exact absurd c4 (by decide)
        · rw [sp_storeConditional_eq hj c2] at ret
          refine lv_iconst (v := 1) hx hb dX1_storeConditional_42 (by decide) ?_
          refine lv_goto (tgt := 47) hx hb dX1_storeConditional_43 (by decide) ?_
          exact ret _ _ _ _ _ _ _ _ _ _ (⟨rfl, h3, sp_kill_m1⟩) I dX1_storeConditional_47
  · exact absurd rfl c1
theorem met_storeConditional {l : Launch} {D : va_G} {ad : Nat → Nat} {cA : Nat → ClassId} {fs ss : Nat} {la : Int32} {mem lin chg wrd : Nat → Int32} {rs : Int32} {M : Nat → Int32} {a v : Int32} (hfs : fs < 2) (hss : ss < 2) (h : hInv fs ss M mem lin chg wrd) : xMi l yX1_storeConditional cX1_storeConditional 4 .int (rmF 8 182) D ad cA fs ss la mem lin chg wrd rs [.ref (ad 0), .int a, .int v] (xPost fs ss (sp_storeConditional M rs a v)) := by
  rcases pk_ix a (n := 256) (by decide) with q | q | ⟨j, hj, rfl⟩
  · exact met_storeConditional_bad hfs hss h (Or.inl q)
  · exact met_storeConditional_bad hfs hss h (Or.inr q)
  · exact met_storeConditional_good hfs hss h hj
set_option maxHeartbeats 4000000 in
theorem met_deviceRead_bad {l : Launch} {D : va_G} {ad : Nat → Nat} {cA : Nat → ClassId} {fs ss : Nat} {la : Int32} {mem lin chg wrd : Nat → Int32} {rs : Int32} {M : Nat → Int32} {a : Int32} (hfs : fs < 2) (hss : ss < 2) (h : hInv fs ss M mem lin chg wrd) (hbad : spBad a 256) : xMi l yX1_deviceRead cX1_deviceRead 2 .int (rmF 4 90) D ad cA fs ss la mem lin chg wrd rs [.ref (ad 0), .int a] (xPost fs ss (sp_load M rs a)) := by
  rw [sp_load_bad hbad]
  refine xMi_of rfl (by decide) (Nat.le_of_ble_eq_true rfl) (fun _ _ _ _ _ _ _ => rfl) ?_
  intro p e s m args below meth c Q A H0 ls C I hl ret
  have hx := C.1.1
  have hb := C.1.2.1
  have hl : lv_has ls 2 [(0, .ref (ad 0)), (1, .int a)] := hl
  refine lv_iload_n hx hb dX1_deviceRead_0 rfl (hc_g hl rfl) ?_
  refine x_callsr [.int a] (rest := []) C I hl.1 (met_bad_bad hbad) (xw_bad C.1.2.2.2.2 rfl rfl ⟨by decide, by decide⟩) rfl rfl (Nat.le_of_ble_eq_true rfl) dX1_deviceRead_1 (fun r_1 H locs hr_1 I => ?_)
  subst hr_1
  refine lv_if_eq (tgt := 11) hx hb dX1_deviceRead_4 (by decide) (fun c1 => ?_) (fun c1 => ?_)
  · exact absurd c1 (by decide)
  · refine lv_iconst (v := -1) hx hb dX1_deviceRead_7 (by decide) ?_
    refine lv_goto (tgt := 16) hx hb dX1_deviceRead_8 (by decide) ?_
    exact ret _ _ _ _ _ _ _ _ _ _ (⟨rfl, h, rfl⟩) I dX1_deviceRead_16
set_option maxHeartbeats 4000000 in
theorem met_deviceRead_good {l : Launch} {D : va_G} {ad : Nat → Nat} {cA : Nat → ClassId} {fs ss : Nat} {la : Int32} {mem lin chg wrd : Nat → Int32} {rs : Int32} {M : Nat → Int32}  {j : Nat} (hfs : fs < 2) (hss : ss < 2) (h : hInv fs ss M mem lin chg wrd) (hj : j < 256) : xMi l yX1_deviceRead cX1_deviceRead 2 .int (rmF 4 90) D ad cA fs ss la mem lin chg wrd rs [.ref (ad 0), .int (nI j)] (xPost fs ss (sp_load M rs (nI j))) := by
  rw [sp_load_good hj]
  refine xMi_of rfl (by decide) (Nat.le_of_ble_eq_true rfl) (fun _ _ _ _ _ _ _ => rfl) ?_
  intro p e s m args below meth c Q A H0 ls C I hl ret
  have hx := C.1.1
  have hb := C.1.2.1
  have hl : lv_has ls 2 [(0, .ref (ad 0)), (1, .int (nI j))] := hl
  refine lv_iload_n hx hb dX1_deviceRead_0 rfl (hc_g hl rfl) ?_
  refine x_callsr [.int (nI j)] (rest := []) C I hl.1 (met_bad_good hj) (xw_bad C.1.2.2.2.2 rfl rfl ⟨by decide, by decide⟩) rfl rfl (Nat.le_of_ble_eq_true rfl) dX1_deviceRead_1 (fun r_1 H locs hr_1 I => ?_)
  subst hr_1
  refine lv_if_eq (tgt := 11) hx hb dX1_deviceRead_4 (by decide) (fun c1 => ?_) (fun c1 => ?_)
  · refine lv_aload_n hx hb dX1_deviceRead_11 rfl (hc_g hl rfl) ?_
    refine lv_iload_n hx hb dX1_deviceRead_12 rfl (hc_g hl rfl) ?_
    refine x_callr [.int (nI j)] (rest := []) C I hl.1 (met_deviceWord hfs hss h hj) (xw_deviceWord C.1.2.2.2.2 rfl rfl ⟨by decide, by decide⟩) rfl rfl (Nat.le_of_ble_eq_true rfl) dX1_deviceRead_13 (fun r_2 H locs hr_2 I => ?_)
    subst hr_2
    exact ret _ _ _ _ _ _ _ _ _ _ (⟨rfl, h, rfl⟩) I dX1_deviceRead_16
  · exact absurd rfl c1
theorem met_deviceRead {l : Launch} {D : va_G} {ad : Nat → Nat} {cA : Nat → ClassId} {fs ss : Nat} {la : Int32} {mem lin chg wrd : Nat → Int32} {rs : Int32} {M : Nat → Int32} {a : Int32} (hfs : fs < 2) (hss : ss < 2) (h : hInv fs ss M mem lin chg wrd) : xMi l yX1_deviceRead cX1_deviceRead 2 .int (rmF 4 90) D ad cA fs ss la mem lin chg wrd rs [.ref (ad 0), .int a] (xPost fs ss (sp_load M rs a)) := by
  rcases pk_ix a (n := 256) (by decide) with q | q | ⟨j, hj, rfl⟩
  · exact met_deviceRead_bad hfs hss h (Or.inl q)
  · exact met_deviceRead_bad hfs hss h (Or.inr q)
  · exact met_deviceRead_good hfs hss h hj
set_option maxHeartbeats 4000000 in
theorem met_deviceWrite_bad {l : Launch} {D : va_G} {ad : Nat → Nat} {cA : Nat → ClassId} {fs ss : Nat} {la : Int32} {mem lin chg wrd : Nat → Int32} {rs : Int32} {M : Nat → Int32} {a v : Int32} (hfs : fs < 2) (hss : ss < 2) (h : hInv fs ss M mem lin chg wrd) (hbad : spBad a 256) : xMi l yX1_deviceWrite cX1_deviceWrite 3 .int (rmF 4 91) D ad cA fs ss la mem lin chg wrd rs [.ref (ad 0), .int a, .int v] (xPost fs ss (sp_store M rs a v)) := by
  rw [sp_store_bad hbad]
  refine xMi_of rfl (by decide) (Nat.le_of_ble_eq_true rfl) (fun _ _ _ _ _ _ _ => rfl) ?_
  intro p e s m args below meth c Q A H0 ls C I hl ret
  have hx := C.1.1
  have hb := C.1.2.1
  have hl : lv_has ls 3 [(0, .ref (ad 0)), (1, .int a), (2, .int v)] := hl
  refine lv_iload_n hx hb dX1_deviceWrite_0 rfl (hc_g hl rfl) ?_
  refine x_callsr [.int a] (rest := []) C I hl.1 (met_bad_bad hbad) (xw_bad C.1.2.2.2.2 rfl rfl ⟨by decide, by decide⟩) rfl rfl (Nat.le_of_ble_eq_true rfl) dX1_deviceWrite_1 (fun r_1 H locs hr_1 I => ?_)
  subst hr_1
  refine lv_if_eq (tgt := 9) hx hb dX1_deviceWrite_4 (by decide) (fun c1 => ?_) (fun c1 => ?_)
  · exact absurd c1 (by decide)
  · refine lv_iconst (v := -1) hx hb dX1_deviceWrite_7 (by decide) ?_
    exact ret _ _ _ _ _ _ _ _ _ _ (⟨rfl, h, rfl⟩) I dX1_deviceWrite_8
set_option maxHeartbeats 4000000 in
theorem met_deviceWrite_good {l : Launch} {D : va_G} {ad : Nat → Nat} {cA : Nat → ClassId} {fs ss : Nat} {la : Int32} {mem lin chg wrd : Nat → Int32} {rs : Int32} {M : Nat → Int32} {v : Int32} {j : Nat} (hfs : fs < 2) (hss : ss < 2) (h : hInv fs ss M mem lin chg wrd) (hj : j < 256) : xMi l yX1_deviceWrite cX1_deviceWrite 3 .int (rmF 4 91) D ad cA fs ss la mem lin chg wrd rs [.ref (ad 0), .int (nI j), .int v] (xPost fs ss (sp_store M rs (nI j) v)) := by
  rw [sp_store_good hj]
  refine xMi_of rfl (by decide) (Nat.le_of_ble_eq_true rfl) (fun _ _ _ _ _ _ _ => rfl) ?_
  intro p e s m args below meth c Q A H0 ls C I hl ret
  have hx := C.1.1
  have hb := C.1.2.1
  have hl : lv_has ls 3 [(0, .ref (ad 0)), (1, .int (nI j)), (2, .int v)] := hl
  refine lv_iload_n hx hb dX1_deviceWrite_0 rfl (hc_g hl rfl) ?_
  refine x_callsr [.int (nI j)] (rest := []) C I hl.1 (met_bad_good hj) (xw_bad C.1.2.2.2.2 rfl rfl ⟨by decide, by decide⟩) rfl rfl (Nat.le_of_ble_eq_true rfl) dX1_deviceWrite_1 (fun r_1 H locs hr_1 I => ?_)
  subst hr_1
  refine lv_if_eq (tgt := 9) hx hb dX1_deviceWrite_4 (by decide) (fun c1 => ?_) (fun c1 => ?_)
  · refine lv_aload_n hx hb dX1_deviceWrite_9 rfl (hc_g hl rfl) ?_
    refine lv_iload_n hx hb dX1_deviceWrite_10 rfl (hc_g hl rfl) ?_
    refine lv_iload_n hx hb dX1_deviceWrite_11 rfl (hc_g hl rfl) ?_
    refine x_callv [.int (nI j), .int v] (rest := []) C I hl.1 (met_devicePut hfs hss h hj) (xw_devicePut C.1.2.2.2.2 rfl rfl ⟨by decide, by decide⟩) rfl rfl (Nat.le_of_ble_eq_true rfl) dX1_deviceWrite_12 (fun mem_3 lin_3 chg_3 wrd_3 rs_3 H locs hp I => ?_)
    obtain ⟨h3, rfl⟩ := hp
    refine lv_iconst (v := 0) hx hb dX1_deviceWrite_15 (by decide) ?_
    exact ret _ _ _ _ _ _ _ _ _ _ (⟨rfl, h3, rfl⟩) I dX1_deviceWrite_16
  · exact absurd rfl c1
theorem met_deviceWrite {l : Launch} {D : va_G} {ad : Nat → Nat} {cA : Nat → ClassId} {fs ss : Nat} {la : Int32} {mem lin chg wrd : Nat → Int32} {rs : Int32} {M : Nat → Int32} {a v : Int32} (hfs : fs < 2) (hss : ss < 2) (h : hInv fs ss M mem lin chg wrd) : xMi l yX1_deviceWrite cX1_deviceWrite 3 .int (rmF 4 91) D ad cA fs ss la mem lin chg wrd rs [.ref (ad 0), .int a, .int v] (xPost fs ss (sp_store M rs a v)) := by
  rcases pk_ix a (n := 256) (by decide) with q | q | ⟨j, hj, rfl⟩
  · exact met_deviceWrite_bad hfs hss h (Or.inl q)
  · exact met_deviceWrite_bad hfs hss h (Or.inr q)
  · exact met_deviceWrite_good hfs hss h hj
set_option maxHeartbeats 4000000 in
theorem met_hint_bad {l : Launch} {D : va_G} {ad : Nat → Nat} {cA : Nat → ClassId} {fs ss : Nat} {la : Int32} {mem lin chg wrd : Nat → Int32} {rs : Int32} {M : Nat → Int32} {a how : Int32} (hfs : fs < 2) (hss : ss < 2) (h : hInv fs ss M mem lin chg wrd) (hbad : spBad a 256) : xMi l yX1_hint cX1_hint 5 .int (rmF 6 137) D ad cA fs ss la mem lin chg wrd rs [.ref (ad 0), .int a, .int how] (xPost fs ss (sp_hint M rs a)) := by
  rw [sp_hint_bad hbad]
  refine xMi_of rfl (by decide) (Nat.le_of_ble_eq_true rfl) (fun _ _ _ _ _ _ _ => rfl) ?_
  intro p e s m args below meth c Q A H0 ls C I hl ret
  have hx := C.1.1
  have hb := C.1.2.1
  have hl : lv_has ls 5 [(0, .ref (ad 0)), (1, .int a), (2, .int how)] := hl
  refine lv_iload_n hx hb dX1_hint_0 rfl (hc_g hl rfl) ?_
  refine x_callsr [.int a] (rest := []) C I hl.1 (met_bad_bad hbad) (xw_bad C.1.2.2.2.2 rfl rfl ⟨by decide, by decide⟩) rfl rfl (Nat.le_of_ble_eq_true rfl) dX1_hint_1 (fun r_1 H locs hr_1 I => ?_)
  subst hr_1
  refine lv_if_eq (tgt := 9) hx hb dX1_hint_4 (by decide) (fun c1 => ?_) (fun c1 => ?_)
  · exact absurd c1 (by decide)
  · refine lv_iconst (v := -1) hx hb dX1_hint_7 (by decide) ?_
    exact ret _ _ _ _ _ _ _ _ _ _ (⟨rfl, h, rfl⟩) I dX1_hint_8
set_option maxHeartbeats 4000000 in
theorem met_hint_good {l : Launch} {D : va_G} {ad : Nat → Nat} {cA : Nat → ClassId} {fs ss : Nat} {la : Int32} {mem lin chg wrd : Nat → Int32} {rs : Int32} {M : Nat → Int32} {how : Int32} {j : Nat} (hfs : fs < 2) (hss : ss < 2) (h : hInv fs ss M mem lin chg wrd) (hj : j < 256) : xMi l yX1_hint cX1_hint 5 .int (rmF 6 137) D ad cA fs ss la mem lin chg wrd rs [.ref (ad 0), .int (nI j), .int how] (xPost fs ss (sp_hint M rs (nI j))) := by
  rw [sp_hint_good hj]
  refine xMi_of rfl (by decide) (Nat.le_of_ble_eq_true rfl) (fun _ _ _ _ _ _ _ => rfl) ?_
  intro p e s m args below meth c Q A H0 ls C I hl ret
  have hx := C.1.1
  have hb := C.1.2.1
  have hl : lv_has ls 5 [(0, .ref (ad 0)), (1, .int (nI j)), (2, .int how)] := hl
  refine lv_iload_n hx hb dX1_hint_0 rfl (hc_g hl rfl) ?_
  refine x_callsr [.int (nI j)] (rest := []) C I hl.1 (met_bad_good hj) (xw_bad C.1.2.2.2.2 rfl rfl ⟨by decide, by decide⟩) rfl rfl (Nat.le_of_ble_eq_true rfl) dX1_hint_1 (fun r_1 H locs hr_1 I => ?_)
  subst hr_1
  refine lv_if_eq (tgt := 9) hx hb dX1_hint_4 (by decide) (fun c1 => ?_) (fun c1 => ?_)
  · refine lv_iload_n hx hb dX1_hint_9 rfl (hc_g hl rfl) ?_
    refine lv_iconst (v := nI 3) hx hb dX1_hint_10 (by decide) ?_
    refine lv_iand hx hb dX1_hint_11 ?_
    obtain ⟨w, hw, ew⟩ := pk_andE how (m := nI 3) 2 (by decide)
    refine hc_re (nI w) (ew) ?_
    refine lv_istore_n (lv' := [(3, .int (nI w)), (0, .ref (ad 0)), (1, .int (nI j)), (2, .int how)]) hx hb dX1_hint_12 rfl hl (by decide) rfl (fun ls hl => ?_)
    have t25 : ∀ (mem lin chg wrd : Nat → Int32) (H : Heap) (locs : List Loc), hInv fs ss M mem lin chg wrd → xI D A H0 ad cA fs ss la mem lin chg wrd rs H locs → W p l e (rmF 6 137) s m args below meth c H locs 0 0 Q (F0 m 25 ls []) := by
      clear h I
      intro mem lin chg wrd H locs h I
      refine lv_iconst (v := nI 0) hx hb dX1_hint_25 (by decide) ?_
      refine lv_istore (lv' := [(4, .int (nI 0)), (3, .int (nI w)), (0, .ref (ad 0)), (1, .int (nI j)), (2, .int how)]) hx hb dX1_hint_26 hl (by decide) rfl (fun ls hl => ?_)
      refine hc_loop (S := Unit) (fun i _ H locs ls => ∃ mem lin chg wrd : Nat → Int32, hInv fs ss M mem lin chg wrd ∧ xI D A H0 ad cA fs ss la mem lin chg wrd rs H locs ∧ lv_has ls 5 [(4, .int (nI i)), (0, .ref (ad 0)), (1, .int (nI j)), (2, .int how), (3, .int (nI w))]) 26 (fun i _ H locs ls hi hI back => ?_) 0 () _ _ _ (Nat.zero_le _) ⟨_, _, _, _, h, I, lv_sub hl [0, 2, 3, 4, 1] rfl⟩
      clear h I
      obtain ⟨mem, lin, chg, wrd, h, I, hl⟩ := hI
      refine lv_iload hx hb dX1_hint_28 (hc_g hl rfl) ?_
      refine lv_bipush (v := nI 26) hx hb dX1_hint_30 (by decide) ?_
      refine lv_icmp_ge (tgt := 97) hx hb dX1_hint_32 (by decide) (fun c2 => ?_) (fun c2 => ?_)
      · have hie : i = 26 := Nat.le_antisymm hi ((nI_leI (by omega) (by omega)).mp c2)
        subst hie
        refine lv_iconst (v := 0) hx hb dX1_hint_97 (by decide) ?_
        exact ret _ _ _ _ _ _ _ _ _ _ (⟨rfl, h, rfl⟩) I dX1_hint_98
      · have hlt : i < 26 := Nat.lt_of_not_le (fun h => c2 (nI_le h (by omega)))
        refine lv_iload_n hx hb dX1_hint_35 rfl (hc_g hl rfl) ?_
        refine lv_if_le (tgt := 97) hx hb dX1_hint_36 (by decide) (fun c3 => ?_) (fun c3 => ?_)
        · refine lv_iconst (v := 0) hx hb dX1_hint_97 (by decide) ?_
          exact ret _ _ _ _ _ _ _ _ _ _ (⟨rfl, h, rfl⟩) I dX1_hint_98
        · refine lv_iload_n hx hb dX1_hint_39 rfl (hc_g hl rfl) ?_
          refine lv_iconst (v := nI 1) hx hb dX1_hint_40 (by decide) ?_
          refine lv_icmp_ne (tgt := 53) hx hb dX1_hint_41 (by decide) (fun c4 => ?_) (fun c4 => ?_)
          · refine lv_iload_n hx hb dX1_hint_53 rfl (hc_g hl rfl) ?_
            refine lv_iconst (v := nI 2) hx hb dX1_hint_54 (by decide) ?_
            refine lv_icmp_ne (tgt := 67) hx hb dX1_hint_55 (by decide) (fun c5 => ?_) (fun c5 => ?_)
            · refine lv_iload hx hb dX1_hint_67 (hc_g hl rfl) ?_
              refine lv_bipush (v := nI 8) hx hb dX1_hint_69 (by decide) ?_
              refine lv_icmp_ge (tgt := 91) hx hb dX1_hint_71 (by decide) (fun c6 => ?_) (fun c6 => ?_)
              · refine lv_iinc (v := nI (i + 1)) (lv' := [(4, .int (nI (i + 1))), (0, .ref (ad 0)), (1, .int (nI j)), (2, .int how), (3, .int (nI w))]) hx hb dX1_hint_91 hl (k := 0) rfl (nI_1 _) (by decide) rfl (fun ls hl => ?_)
                refine lv_goto (tgt := 28) hx hb dX1_hint_94 (by decide) ?_
                exact back hlt () _ _ _ ⟨_, _, _, _, h, I, lv_sub hl [0, 1, 2, 3, 4] rfl⟩
              · have hi8 : i < 8 := Nat.lt_of_not_le (fun h => c6 (nI_le h (by omega)))
                refine lv_aload_n hx hb dX1_hint_74 rfl (hc_g hl rfl) ?_
                refine xg_lin C I dX1_hint_75 ?_
                refine lv_iload hx hb dX1_hint_78 (hc_g hl rfl) ?_
                refine xl_lin C I (by omega) dX1_hint_80 ?_
                refine lv_iconst (v := -1) hx hb dX1_hint_81 (by decide) ?_
                refine lv_icmp_eq (tgt := 91) hx hb dX1_hint_82 (by decide) (fun c7 => ?_) (fun c7 => ?_)
                · refine lv_iinc (v := nI (i + 1)) (lv' := [(4, .int (nI (i + 1))), (0, .ref (ad 0)), (1, .int (nI j)), (2, .int how), (3, .int (nI w))]) hx hb dX1_hint_91 hl (k := 0) rfl (nI_1 _) (by decide) rfl (fun ls hl => ?_)
                  refine lv_goto (tgt := 28) hx hb dX1_hint_94 (by decide) ?_
                  exact back hlt () _ _ _ ⟨_, _, _, _, h, I, lv_sub hl [0, 1, 2, 3, 4] rfl⟩
                · refine lv_aload_n hx hb dX1_hint_85 rfl (hc_g hl rfl) ?_
                  refine lv_iload hx hb dX1_hint_86 (hc_g hl rfl) ?_
                  refine x_callv [.int (nI i)] (rest := []) C I hl.1 (met_sinkToBuffer hss h hi8 c7) (xw_sinkToBuffer C.1.2.2.2.2 rfl rfl ⟨by decide, by decide⟩) rfl rfl (Nat.le_of_ble_eq_true rfl) dX1_hint_88 (fun mem_5 lin_5 chg_5 wrd_5 rs_5 H locs hp I => ?_)
                  obtain ⟨h, -, -, rfl⟩ := hp
                  refine lv_iinc (v := nI (i + 1)) (lv' := [(4, .int (nI (i + 1))), (0, .ref (ad 0)), (1, .int (nI j)), (2, .int how), (3, .int (nI w))]) hx hb dX1_hint_91 hl (k := 0) rfl (nI_1 _) (by decide) rfl (fun ls hl => ?_)
                  refine lv_goto (tgt := 28) hx hb dX1_hint_94 (by decide) ?_
                  exact back hlt () _ _ _ ⟨_, _, _, _, h, I, lv_sub hl [0, 1, 2, 3, 4] rfl⟩
            · refine lv_aload_n hx hb dX1_hint_58 rfl (hc_g hl rfl) ?_
              refine lv_iload hx hb dX1_hint_59 (hc_g hl rfl) ?_
              refine x_callv [.int (nI i)] (rest := []) C I hl.1 (met_empty h hlt) (xw_empty C.1.2.2.2.2 rfl rfl ⟨by decide, by decide⟩) rfl rfl (Nat.le_of_ble_eq_true rfl) dX1_hint_61 (fun mem_5 lin_5 chg_5 wrd_5 rs_5 H locs hp I => ?_)
              obtain ⟨h, rfl⟩ := hp
              refine lv_goto (tgt := 91) hx hb dX1_hint_64 (by decide) ?_
              refine lv_iinc (v := nI (i + 1)) (lv' := [(4, .int (nI (i + 1))), (0, .ref (ad 0)), (1, .int (nI j)), (2, .int how), (3, .int (nI w))]) hx hb dX1_hint_91 hl (k := 0) rfl (nI_1 _) (by decide) rfl (fun ls hl => ?_)
              refine lv_goto (tgt := 28) hx hb dX1_hint_94 (by decide) ?_
              exact back hlt () _ _ _ ⟨_, _, _, _, h, I, lv_sub hl [0, 1, 2, 3, 4] rfl⟩
          · refine lv_aload_n hx hb dX1_hint_44 rfl (hc_g hl rfl) ?_
            refine lv_iload hx hb dX1_hint_45 (hc_g hl rfl) ?_
            refine x_callv [.int (nI i)] (rest := []) C I hl.1 (met_writeBack h hlt) (xw_writeBack C.1.2.2.2.2 rfl rfl ⟨by decide, by decide⟩) rfl rfl (Nat.le_of_ble_eq_true rfl) dX1_hint_47 (fun mem_5 lin_5 chg_5 wrd_5 rs_5 H locs hp I => ?_)
            obtain ⟨rfl, rfl, rfl, rfl, h⟩ := hp
            refine lv_goto (tgt := 91) hx hb dX1_hint_50 (by decide) ?_
            refine lv_iinc (v := nI (i + 1)) (lv' := [(4, .int (nI (i + 1))), (0, .ref (ad 0)), (1, .int (nI j)), (2, .int how), (3, .int (nI w))]) hx hb dX1_hint_91 hl (k := 0) rfl (nI_1 _) (by decide) rfl (fun ls hl => ?_)
            refine lv_goto (tgt := 28) hx hb dX1_hint_94 (by decide) ?_
            exact back hlt () _ _ _ ⟨_, _, _, _, h, I, lv_sub hl [0, 1, 2, 3, 4] rfl⟩
    refine lv_iload_n hx hb dX1_hint_13 rfl (hc_g hl rfl) ?_
    refine lv_if_ne (tgt := 25) hx hb dX1_hint_14 (by decide) (fun c1 => ?_) (fun c1 => ?_)
    · exact t25 _ _ _ _ _ _ h I
    · refine lv_aload_n hx hb dX1_hint_17 rfl (hc_g hl rfl) ?_
      refine lv_iload_n hx hb dX1_hint_18 rfl (hc_g hl rfl) ?_
      refine lv_iconst (v := nI 2) hx hb dX1_hint_19 (by decide) ?_
      refine lv_ishr hx hb dX1_hint_20 ?_
      refine hc_re (nI (j / 4)) (hx_sh2 (by omega)) ?_
      refine x_calli [.int (nI (j / 4))] (rest := []) C I hl.1 (met_bring hfs hss h (by omega)) (xw_bring C.1.2.2.2.2 rfl rfl ⟨by decide, by decide⟩) rfl rfl (Nat.le_of_ble_eq_true rfl) dX1_hint_21 (fun r_2 mem_2 lin_2 chg_2 wrd_2 rs_2 H locs hp I => ?_)
      obtain ⟨t, rfl, -, -, h2, rfl⟩ := hp
      refine lv_pop hx hb dX1_hint_24 rfl ?_
      exact t25 _ _ _ _ _ _ h2 I
  · exact absurd rfl c1
theorem met_hint {l : Launch} {D : va_G} {ad : Nat → Nat} {cA : Nat → ClassId} {fs ss : Nat} {la : Int32} {mem lin chg wrd : Nat → Int32} {rs : Int32} {M : Nat → Int32} {a how : Int32} (hfs : fs < 2) (hss : ss < 2) (h : hInv fs ss M mem lin chg wrd) : xMi l yX1_hint cX1_hint 5 .int (rmF 6 137) D ad cA fs ss la mem lin chg wrd rs [.ref (ad 0), .int a, .int how] (xPost fs ss (sp_hint M rs a)) := by
  rcases pk_ix a (n := 256) (by decide) with q | q | ⟨j, hj, rfl⟩
  · exact met_hint_bad hfs hss h (Or.inl q)
  · exact met_hint_bad hfs hss h (Or.inr q)
  · exact met_hint_good hfs hss h hj
set_option maxHeartbeats 4000000 in
theorem met_copy_badA {l : Launch} {D : va_G} {ad : Nat → Nat} {cA : Nat → ClassId} {fs ss : Nat} {la : Int32} {mem lin chg wrd : Nat → Int32} {rs : Int32} {M : Nat → Int32} {a b n : Int32} (hfs : fs < 2) (hss : ss < 2) (h : hInv fs ss M mem lin chg wrd) (hbad : spBad a 256) : xMi l yX1_copy cX1_copy 6 .int (rmF 8 182) D ad cA fs ss la mem lin chg wrd rs [.ref (ad 0), .int a, .int b, .int n] (xPost fs ss (sp_copy M rs a b n)) := by
  rw [sp_copy_bad (Or.inl hbad)]
  refine xMi_of rfl (by decide) (Nat.le_of_ble_eq_true rfl) (fun _ _ _ _ _ _ _ => rfl) ?_
  intro p e s m args below meth c Q A H0 ls C I hl ret
  have hx := C.1.1
  have hb := C.1.2.1
  have hl : lv_has ls 6 [(0, .ref (ad 0)), (1, .int a), (2, .int b), (3, .int n)] := hl
  refine lv_iload_n hx hb dX1_copy_0 rfl (hc_g hl rfl) ?_
  refine x_callsr [.int a] (rest := []) C I hl.1 (met_bad_bad hbad) (xw_bad C.1.2.2.2.2 rfl rfl ⟨by decide, by decide⟩) rfl rfl (Nat.le_of_ble_eq_true rfl) dX1_copy_1 (fun r_1 H locs hr_1 I => ?_)
  subst hr_1
  refine lv_if_ne (tgt := 14) hx hb dX1_copy_4 (by decide) (fun c1 => ?_) (fun c1 => ?_)
  · refine lv_iconst (v := -1) hx hb dX1_copy_14 (by decide) ?_
    exact ret _ _ _ _ _ _ _ _ _ _ (⟨rfl, h, rfl⟩) I dX1_copy_15
  · exact absurd c1 (by decide)
set_option maxHeartbeats 4000000 in
theorem met_copy_badB {l : Launch} {D : va_G} {ad : Nat → Nat} {cA : Nat → ClassId} {fs ss : Nat} {la : Int32} {mem lin chg wrd : Nat → Int32} {rs : Int32} {M : Nat → Int32} {j : Nat} {b n : Int32} (hfs : fs < 2) (hss : ss < 2) (h : hInv fs ss M mem lin chg wrd) (hj : j < 256) (hbad : spBad b 256) : xMi l yX1_copy cX1_copy 6 .int (rmF 8 182) D ad cA fs ss la mem lin chg wrd rs [.ref (ad 0), .int (nI j), .int b, .int n] (xPost fs ss (sp_copy M rs (nI j) b n)) := by
  rw [sp_copy_bad (Or.inr hbad)]
  refine xMi_of rfl (by decide) (Nat.le_of_ble_eq_true rfl) (fun _ _ _ _ _ _ _ => rfl) ?_
  intro p e s m args below meth c Q A H0 ls C I hl ret
  have hx := C.1.1
  have hb := C.1.2.1
  have hl : lv_has ls 6 [(0, .ref (ad 0)), (1, .int (nI j)), (2, .int b), (3, .int n)] := hl
  refine lv_iload_n hx hb dX1_copy_0 rfl (hc_g hl rfl) ?_
  refine x_callsr [.int (nI j)] (rest := []) C I hl.1 (met_bad_good hj) (xw_bad C.1.2.2.2.2 rfl rfl ⟨by decide, by decide⟩) rfl rfl (Nat.le_of_ble_eq_true rfl) dX1_copy_1 (fun r_1 H locs hr_1 I => ?_)
  subst hr_1
  refine lv_if_ne (tgt := 14) hx hb dX1_copy_4 (by decide) (fun c1 => ?_) (fun c1 => ?_)
  · exact absurd rfl c1
  · refine lv_iload_n hx hb dX1_copy_7 rfl (hc_g hl rfl) ?_
    refine x_callsr [.int b] (rest := []) C I hl.1 (met_bad_bad hbad) (xw_bad C.1.2.2.2.2 rfl rfl ⟨by decide, by decide⟩) rfl rfl (Nat.le_of_ble_eq_true rfl) dX1_copy_8 (fun r_2 H locs hr_2 I => ?_)
    subst hr_2
    refine lv_if_eq (tgt := 16) hx hb dX1_copy_11 (by decide) (fun c2 => ?_) (fun c2 => ?_)
    · exact absurd c2 (by decide)
    · refine lv_iconst (v := -1) hx hb dX1_copy_14 (by decide) ?_
      exact ret _ _ _ _ _ _ _ _ _ _ (⟨rfl, h, rfl⟩) I dX1_copy_15
set_option maxHeartbeats 4000000 in
theorem met_copy_len {l : Launch} {D : va_G} {ad : Nat → Nat} {cA : Nat → ClassId} {fs ss : Nat} {la : Int32} {mem lin chg wrd : Nat → Int32} {rs : Int32} {M : Nat → Int32} {j k : Nat} {n : Int32} (hfs : fs < 2) (hss : ss < 2) (h : hInv fs ss M mem lin chg wrd) (hj : j < 256) (hk : k < 256) (hlen : n < 0 ∨ nI 32 < n ∨ nI 256 < nI j + n ∨ nI 256 < nI k + n) : xMi l yX1_copy cX1_copy 6 .int (rmF 8 182) D ad cA fs ss la mem lin chg wrd rs [.ref (ad 0), .int (nI j), .int (nI k), .int n] (xPost fs ss (sp_copy M rs (nI j) (nI k) n)) := by
  rw [sp_copy_len hj hk hlen]
  refine xMi_of rfl (by decide) (Nat.le_of_ble_eq_true rfl) (fun _ _ _ _ _ _ _ => rfl) ?_
  intro p e s m args below meth c Q A H0 ls C I hl ret
  have hx := C.1.1
  have hb := C.1.2.1
  have hl : lv_has ls 6 [(0, .ref (ad 0)), (1, .int (nI j)), (2, .int (nI k)), (3, .int n)] := hl
  refine lv_iload_n hx hb dX1_copy_0 rfl (hc_g hl rfl) ?_
  refine x_callsr [.int (nI j)] (rest := []) C I hl.1 (met_bad_good hj) (xw_bad C.1.2.2.2.2 rfl rfl ⟨by decide, by decide⟩) rfl rfl (Nat.le_of_ble_eq_true rfl) dX1_copy_1 (fun r_1 H locs hr_1 I => ?_)
  subst hr_1
  refine lv_if_ne (tgt := 14) hx hb dX1_copy_4 (by decide) (fun c1 => ?_) (fun c1 => ?_)
  · exact absurd rfl c1
  · refine lv_iload_n hx hb dX1_copy_7 rfl (hc_g hl rfl) ?_
    refine x_callsr [.int (nI k)] (rest := []) C I hl.1 (met_bad_good hk) (xw_bad C.1.2.2.2.2 rfl rfl ⟨by decide, by decide⟩) rfl rfl (Nat.le_of_ble_eq_true rfl) dX1_copy_8 (fun r_2 H locs hr_2 I => ?_)
    subst hr_2
    refine lv_if_eq (tgt := 16) hx hb dX1_copy_11 (by decide) (fun c2 => ?_) (fun c2 => ?_)
    · refine lv_iload_n hx hb dX1_copy_16 rfl (hc_g hl rfl) ?_
      refine lv_if_lt (tgt := 44) hx hb dX1_copy_17 (by decide) (fun c3 => ?_) (fun c3 => ?_)
      · refine lv_bipush (v := -2) hx hb dX1_copy_44 (by decide) ?_
        exact ret _ _ _ _ _ _ _ _ _ _ (⟨rfl, h, rfl⟩) I dX1_copy_46
      · refine lv_iload_n hx hb dX1_copy_20 rfl (hc_g hl rfl) ?_
        refine lv_bipush (v := nI 32) hx hb dX1_copy_21 (by decide) ?_
        refine lv_icmp_gt (tgt := 44) hx hb dX1_copy_23 (by decide) (fun c4 => ?_) (fun c4 => ?_)
        · refine lv_bipush (v := -2) hx hb dX1_copy_44 (by decide) ?_
          exact ret _ _ _ _ _ _ _ _ _ _ (⟨rfl, h, rfl⟩) I dX1_copy_46
        · refine lv_iload_n hx hb dX1_copy_26 rfl (hc_g hl rfl) ?_
          refine lv_iload_n hx hb dX1_copy_27 rfl (hc_g hl rfl) ?_
          refine lv_iadd hx hb dX1_copy_28 ?_
          refine lv_sipush (v := nI 256) hx hb dX1_copy_29 (by decide) ?_
          refine lv_icmp_gt (tgt := 44) hx hb dX1_copy_32 (by decide) (fun c5 => ?_) (fun c5 => ?_)
          · refine lv_bipush (v := -2) hx hb dX1_copy_44 (by decide) ?_
            exact ret _ _ _ _ _ _ _ _ _ _ (⟨rfl, h, rfl⟩) I dX1_copy_46
          · refine lv_iload_n hx hb dX1_copy_35 rfl (hc_g hl rfl) ?_
            refine lv_iload_n hx hb dX1_copy_36 rfl (hc_g hl rfl) ?_
            refine lv_iadd hx hb dX1_copy_37 ?_
            refine lv_sipush (v := nI 256) hx hb dX1_copy_38 (by decide) ?_
            refine lv_icmp_le (tgt := 47) hx hb dX1_copy_41 (by decide) (fun c6 => ?_) (fun c6 => ?_)
            · exact absurd c6 (by rcases hlen with q | q | q | q; exact absurd q c3; exact absurd q c4; exact absurd q c5; exact hx_nle q)
            · refine lv_bipush (v := -2) hx hb dX1_copy_44 (by decide) ?_
              exact ret _ _ _ _ _ _ _ _ _ _ (⟨rfl, h, rfl⟩) I dX1_copy_46
    · exact absurd rfl c2
set_option maxHeartbeats 4000000 in
theorem met_copy_good {l : Launch} {D : va_G} {ad : Nat → Nat} {cA : Nat → ClassId} {fs ss : Nat} {la : Int32} {mem lin chg wrd : Nat → Int32} {rs : Int32} {M : Nat → Int32} {j k n : Nat} (hfs : fs < 2) (hss : ss < 2) (h : hInv fs ss M mem lin chg wrd) (hj : j < 256) (hk : k < 256) (hc : n ≤ 32) (hjc : j + n ≤ 256) (hkc : k + n ≤ 256) : xMi l yX1_copy cX1_copy 6 .int (rmF 8 182) D ad cA fs ss la mem lin chg wrd rs [.ref (ad 0), .int (nI j), .int (nI k), .int (nI n)] (xPost fs ss (sp_copy M rs (nI j) (nI k) (nI n))) := by
  rw [sp_copy_good hc hjc hkc hj hk]
  refine xMi_of rfl (by decide) (Nat.le_of_ble_eq_true rfl) (fun _ _ _ _ _ _ _ => rfl) ?_
  intro p e s m args below meth c Q A H0 ls C I hl ret
  have hx := C.1.1
  have hb := C.1.2.1
  have hl : lv_has ls 6 [(0, .ref (ad 0)), (1, .int (nI j)), (2, .int (nI k)), (3, .int (nI n))] := hl
  refine lv_iload_n hx hb dX1_copy_0 rfl (hc_g hl rfl) ?_
  refine x_callsr [.int (nI j)] (rest := []) C I hl.1 (met_bad_good hj) (xw_bad C.1.2.2.2.2 rfl rfl ⟨by decide, by decide⟩) rfl rfl (Nat.le_of_ble_eq_true rfl) dX1_copy_1 (fun r_1 H locs hr_1 I => ?_)
  subst hr_1
  refine lv_if_ne (tgt := 14) hx hb dX1_copy_4 (by decide) (fun c1 => ?_) (fun c1 => ?_)
  · exact absurd rfl c1
  · refine lv_iload_n hx hb dX1_copy_7 rfl (hc_g hl rfl) ?_
    refine x_callsr [.int (nI k)] (rest := []) C I hl.1 (met_bad_good hk) (xw_bad C.1.2.2.2.2 rfl rfl ⟨by decide, by decide⟩) rfl rfl (Nat.le_of_ble_eq_true rfl) dX1_copy_8 (fun r_2 H locs hr_2 I => ?_)
    subst hr_2
    refine lv_if_eq (tgt := 16) hx hb dX1_copy_11 (by decide) (fun c2 => ?_) (fun c2 => ?_)
    · refine lv_iload_n hx hb dX1_copy_16 rfl (hc_g hl rfl) ?_
      refine lv_if_lt (tgt := 44) hx hb dX1_copy_17 (by decide) (fun c3 => ?_) (fun c3 => ?_)
      · exact absurd c3 (nI_pos (by omega))
      · refine lv_iload_n hx hb dX1_copy_20 rfl (hc_g hl rfl) ?_
        refine lv_bipush (v := nI 32) hx hb dX1_copy_21 (by decide) ?_
        refine lv_icmp_gt (tgt := 44) hx hb dX1_copy_23 (by decide) (fun c4 => ?_) (fun c4 => ?_)
        · exact absurd c4 (nI_nlt hc (by decide))
        · refine lv_iload_n hx hb dX1_copy_26 rfl (hc_g hl rfl) ?_
          refine lv_iload_n hx hb dX1_copy_27 rfl (hc_g hl rfl) ?_
          refine hc_addN hx hb dX1_copy_28 ?_
          refine lv_sipush (v := nI 256) hx hb dX1_copy_29 (by decide) ?_
          refine lv_icmp_gt (tgt := 44) hx hb dX1_copy_32 (by decide) (fun c5 => ?_) (fun c5 => ?_)
          · exact absurd c5 (nI_nlt hjc (by decide))
          · refine lv_iload_n hx hb dX1_copy_35 rfl (hc_g hl rfl) ?_
            refine lv_iload_n hx hb dX1_copy_36 rfl (hc_g hl rfl) ?_
            refine hc_addN hx hb dX1_copy_37 ?_
            refine lv_sipush (v := nI 256) hx hb dX1_copy_38 (by decide) ?_
            refine lv_icmp_le (tgt := 47) hx hb dX1_copy_41 (by decide) (fun c6 => ?_) (fun c6 => ?_)
            · refine lv_iconst (v := nI 0) hx hb dX1_copy_47 (by decide) ?_
              refine lv_istore (lv' := [(4, .int (nI 0)), (0, .ref (ad 0)), (1, .int (nI j)), (2, .int (nI k)), (3, .int (nI n))]) hx hb dX1_copy_48 hl (by decide) rfl (fun ls hl => ?_)
              refine hc_loop (S := Unit) (fun i _ H locs ls => ∃ mem lin chg wrd : Nat → Int32, hInv fs ss (spCp M rs j k i).1 mem lin chg wrd ∧ xI D A H0 ad cA fs ss la mem lin chg wrd ((spCp M rs j k i).2) H locs ∧ lv_has ls 6 [(4, .int (nI i)), (0, .ref (ad 0)), (1, .int (nI j)), (2, .int (nI k)), (3, .int (nI n))]) n (fun i _ H locs ls hi hI back => ?_) 0 () _ _ _ (Nat.zero_le _) ⟨_, _, _, _, h, I, lv_sub hl [0, 1, 2, 3, 4] rfl⟩
              clear h I
              obtain ⟨mem, lin, chg, wrd, h, I, hl⟩ := hI
              refine lv_iload hx hb dX1_copy_50 (hc_g hl rfl) ?_
              refine lv_iload_n hx hb dX1_copy_52 rfl (hc_g hl rfl) ?_
              refine lv_icmp_ge (tgt := 82) hx hb dX1_copy_53 (by decide) (fun c7 => ?_) (fun c7 => ?_)
              · have hie : i = n := Nat.le_antisymm hi ((nI_leI (by omega) (by omega)).mp c7)
                subst hie
                refine lv_iload_n hx hb dX1_copy_82 rfl (hc_g hl rfl) ?_
                exact ret _ _ _ _ _ _ _ _ _ _ (⟨rfl, h, rfl⟩) I dX1_copy_83
              · have hlt : i < n := Nat.lt_of_not_le (fun h => c7 (nI_le h (by omega)))
                refine lv_aload_n hx hb dX1_copy_56 rfl (hc_g hl rfl) ?_
                refine lv_iload_n hx hb dX1_copy_57 rfl (hc_g hl rfl) ?_
                refine lv_iload hx hb dX1_copy_58 (hc_g hl rfl) ?_
                refine hc_addN hx hb dX1_copy_60 ?_
                refine x_calli [.int (nI (j + i))] (rest := []) C I hl.1 (met_read hfs hss h (by omega)) (xw_read C.1.2.2.2.2 rfl rfl ⟨by decide, by decide⟩) rfl rfl (Nat.le_of_ble_eq_true rfl) dX1_copy_61 (fun r_2 mem_2 lin_2 chg_2 wrd_2 rs_2 H locs hp I => ?_)
                obtain ⟨rfl, h2, rfl⟩ := hp
                refine lv_istore (lv' := [(5, .int ((spCp M rs j k i).1 (j + i))), (4, .int (nI i)), (0, .ref (ad 0)), (1, .int (nI j)), (2, .int (nI k)), (3, .int (nI n))]) hx hb dX1_copy_64 hl (by decide) rfl (fun ls hl => ?_)
                refine lv_aload_n hx hb dX1_copy_66 rfl (hc_g hl rfl) ?_
                refine lv_iload_n hx hb dX1_copy_67 rfl (hc_g hl rfl) ?_
                refine lv_iload hx hb dX1_copy_68 (hc_g hl rfl) ?_
                refine hc_addN hx hb dX1_copy_70 ?_
                refine lv_iload hx hb dX1_copy_71 (hc_g hl rfl) ?_
                refine x_callv [.int (nI (k + i)), .int ((spCp M rs j k i).1 (j + i))] (rest := []) C I hl.1 (met_write hfs hss h2 (by omega)) (xw_write C.1.2.2.2.2 rfl rfl ⟨by decide, by decide⟩) rfl rfl (Nat.le_of_ble_eq_true rfl) dX1_copy_73 (fun mem_3 lin_3 chg_3 wrd_3 rs_3 H locs hp I => ?_)
                obtain ⟨h, rfl⟩ := hp
                refine lv_iinc (v := nI (i + 1)) (lv' := [(4, .int (nI (i + 1))), (5, .int ((spCp M rs j k i).1 (j + i))), (0, .ref (ad 0)), (1, .int (nI j)), (2, .int (nI k)), (3, .int (nI n))]) hx hb dX1_copy_76 hl (k := 1) rfl (nI_1 _) (by decide) rfl (fun ls hl => ?_)
                refine lv_goto (tgt := 50) hx hb dX1_copy_79 (by decide) ?_
                exact back hlt () _ _ _ ⟨_, _, _, _, h, I, lv_sub hl [0, 2, 3, 4, 5] rfl⟩
            · exact absurd (nI_le hkc (by decide)) c6
    · exact absurd rfl c2
theorem met_copy {l : Launch} {D : va_G} {ad : Nat → Nat} {cA : Nat → ClassId} {fs ss : Nat} {la : Int32} {mem lin chg wrd : Nat → Int32} {rs : Int32} {M : Nat → Int32} {a b n : Int32} (hfs : fs < 2) (hss : ss < 2) (h : hInv fs ss M mem lin chg wrd) : xMi l yX1_copy cX1_copy 6 .int (rmF 8 182) D ad cA fs ss la mem lin chg wrd rs [.ref (ad 0), .int a, .int b, .int n] (xPost fs ss (sp_copy M rs a b n)) := by
  rcases pk_ix a (n := 256) (by decide) with q | q | ⟨j, hj, rfl⟩
  · exact met_copy_badA hfs hss h (Or.inl q)
  · exact met_copy_badA hfs hss h (Or.inr q)
  · rcases pk_ix b (n := 256) (by decide) with q | q | ⟨k, hk, rfl⟩
    · exact met_copy_badB hfs hss h hj (Or.inl q)
    · exact met_copy_badB hfs hss h hj (Or.inr q)
    · rcases spLen_copy n hj hk with q | ⟨c, hc, h1, h2, rfl⟩
      · exact met_copy_len hfs hss h hj hk q
      · exact met_copy_good hfs hss h hj hk hc h1 h2
set_option maxHeartbeats 4000000 in
theorem met_deviceFill_bad {l : Launch} {D : va_G} {ad : Nat → Nat} {cA : Nat → ClassId} {fs ss : Nat} {la : Int32} {mem lin chg wrd : Nat → Int32} {rs : Int32} {M : Nat → Int32} {a n v : Int32} (hfs : fs < 2) (hss : ss < 2) (h : hInv fs ss M mem lin chg wrd) (hbad : spBad a 256) : xMi l yX1_deviceFill cX1_deviceFill 5 .int (rmF 4 91) D ad cA fs ss la mem lin chg wrd rs [.ref (ad 0), .int a, .int n, .int v] (xPost fs ss (sp_deviceFill M rs a n v)) := by
  rw [sp_deviceFill_bad hbad]
  refine xMi_of rfl (by decide) (Nat.le_of_ble_eq_true rfl) (fun _ _ _ _ _ _ _ => rfl) ?_
  intro p e s m args below meth c Q A H0 ls C I hl ret
  have hx := C.1.1
  have hb := C.1.2.1
  have hl : lv_has ls 5 [(0, .ref (ad 0)), (1, .int a), (2, .int n), (3, .int v)] := hl
  refine lv_iload_n hx hb dX1_deviceFill_0 rfl (hc_g hl rfl) ?_
  refine x_callsr [.int a] (rest := []) C I hl.1 (met_bad_bad hbad) (xw_bad C.1.2.2.2.2 rfl rfl ⟨by decide, by decide⟩) rfl rfl (Nat.le_of_ble_eq_true rfl) dX1_deviceFill_1 (fun r_1 H locs hr_1 I => ?_)
  subst hr_1
  refine lv_if_eq (tgt := 9) hx hb dX1_deviceFill_4 (by decide) (fun c1 => ?_) (fun c1 => ?_)
  · exact absurd c1 (by decide)
  · refine lv_iconst (v := -1) hx hb dX1_deviceFill_7 (by decide) ?_
    exact ret _ _ _ _ _ _ _ _ _ _ (⟨rfl, h, rfl⟩) I dX1_deviceFill_8
set_option maxHeartbeats 4000000 in
theorem met_deviceFill_len {l : Launch} {D : va_G} {ad : Nat → Nat} {cA : Nat → ClassId} {fs ss : Nat} {la : Int32} {mem lin chg wrd : Nat → Int32} {rs : Int32} {M : Nat → Int32} {j : Nat} {n v : Int32} (hfs : fs < 2) (hss : ss < 2) (h : hInv fs ss M mem lin chg wrd) (hj : j < 256) (hlen : n < 0 ∨ nI 64 < n ∨ nI 256 < nI j + n) : xMi l yX1_deviceFill cX1_deviceFill 5 .int (rmF 4 91) D ad cA fs ss la mem lin chg wrd rs [.ref (ad 0), .int (nI j), .int n, .int v] (xPost fs ss (sp_deviceFill M rs (nI j) n v)) := by
  rw [sp_deviceFill_len hj hlen]
  refine xMi_of rfl (by decide) (Nat.le_of_ble_eq_true rfl) (fun _ _ _ _ _ _ _ => rfl) ?_
  intro p e s m args below meth c Q A H0 ls C I hl ret
  have hx := C.1.1
  have hb := C.1.2.1
  have hl : lv_has ls 5 [(0, .ref (ad 0)), (1, .int (nI j)), (2, .int n), (3, .int v)] := hl
  refine lv_iload_n hx hb dX1_deviceFill_0 rfl (hc_g hl rfl) ?_
  refine x_callsr [.int (nI j)] (rest := []) C I hl.1 (met_bad_good hj) (xw_bad C.1.2.2.2.2 rfl rfl ⟨by decide, by decide⟩) rfl rfl (Nat.le_of_ble_eq_true rfl) dX1_deviceFill_1 (fun r_1 H locs hr_1 I => ?_)
  subst hr_1
  refine lv_if_eq (tgt := 9) hx hb dX1_deviceFill_4 (by decide) (fun c1 => ?_) (fun c1 => ?_)
  · refine lv_iload_n hx hb dX1_deviceFill_9 rfl (hc_g hl rfl) ?_
    refine lv_if_lt (tgt := 28) hx hb dX1_deviceFill_10 (by decide) (fun c3 => ?_) (fun c3 => ?_)
    · refine lv_bipush (v := -2) hx hb dX1_deviceFill_28 (by decide) ?_
      exact ret _ _ _ _ _ _ _ _ _ _ (⟨rfl, h, rfl⟩) I dX1_deviceFill_30
    · refine lv_iload_n hx hb dX1_deviceFill_13 rfl (hc_g hl rfl) ?_
      refine lv_bipush (v := nI 64) hx hb dX1_deviceFill_14 (by decide) ?_
      refine lv_icmp_gt (tgt := 28) hx hb dX1_deviceFill_16 (by decide) (fun c4 => ?_) (fun c4 => ?_)
      · refine lv_bipush (v := -2) hx hb dX1_deviceFill_28 (by decide) ?_
        exact ret _ _ _ _ _ _ _ _ _ _ (⟨rfl, h, rfl⟩) I dX1_deviceFill_30
      · refine lv_iload_n hx hb dX1_deviceFill_19 rfl (hc_g hl rfl) ?_
        refine lv_iload_n hx hb dX1_deviceFill_20 rfl (hc_g hl rfl) ?_
        refine lv_iadd hx hb dX1_deviceFill_21 ?_
        refine lv_sipush (v := nI 256) hx hb dX1_deviceFill_22 (by decide) ?_
        refine lv_icmp_le (tgt := 31) hx hb dX1_deviceFill_25 (by decide) (fun c6 => ?_) (fun c6 => ?_)
        · exact absurd c6 (by rcases hlen with q | q | q; exact absurd q c3; exact absurd q c4; exact hx_nle q)
        · refine lv_bipush (v := -2) hx hb dX1_deviceFill_28 (by decide) ?_
          exact ret _ _ _ _ _ _ _ _ _ _ (⟨rfl, h, rfl⟩) I dX1_deviceFill_30
  · exact absurd rfl c1
set_option maxHeartbeats 4000000 in
theorem met_deviceFill_good {l : Launch} {D : va_G} {ad : Nat → Nat} {cA : Nat → ClassId} {fs ss : Nat} {la : Int32} {mem lin chg wrd : Nat → Int32} {rs : Int32} {M : Nat → Int32} {j n : Nat} {v : Int32} (hfs : fs < 2) (hss : ss < 2) (h : hInv fs ss M mem lin chg wrd) (hj : j < 256) (hc : n ≤ 64) (hjc : j + n ≤ 256) : xMi l yX1_deviceFill cX1_deviceFill 5 .int (rmF 4 91) D ad cA fs ss la mem lin chg wrd rs [.ref (ad 0), .int (nI j), .int (nI n), .int v] (xPost fs ss (sp_deviceFill M rs (nI j) (nI n) v)) := by
  rw [sp_deviceFill_good hc hjc hj]
  refine xMi_of rfl (by decide) (Nat.le_of_ble_eq_true rfl) (fun _ _ _ _ _ _ _ => rfl) ?_
  intro p e s m args below meth c Q A H0 ls C I hl ret
  have hx := C.1.1
  have hb := C.1.2.1
  have hl : lv_has ls 5 [(0, .ref (ad 0)), (1, .int (nI j)), (2, .int (nI n)), (3, .int v)] := hl
  refine lv_iload_n hx hb dX1_deviceFill_0 rfl (hc_g hl rfl) ?_
  refine x_callsr [.int (nI j)] (rest := []) C I hl.1 (met_bad_good hj) (xw_bad C.1.2.2.2.2 rfl rfl ⟨by decide, by decide⟩) rfl rfl (Nat.le_of_ble_eq_true rfl) dX1_deviceFill_1 (fun r_1 H locs hr_1 I => ?_)
  subst hr_1
  refine lv_if_eq (tgt := 9) hx hb dX1_deviceFill_4 (by decide) (fun c1 => ?_) (fun c1 => ?_)
  · refine lv_iload_n hx hb dX1_deviceFill_9 rfl (hc_g hl rfl) ?_
    refine lv_if_lt (tgt := 28) hx hb dX1_deviceFill_10 (by decide) (fun c3 => ?_) (fun c3 => ?_)
    · exact absurd c3 (nI_pos (by omega))
    · refine lv_iload_n hx hb dX1_deviceFill_13 rfl (hc_g hl rfl) ?_
      refine lv_bipush (v := nI 64) hx hb dX1_deviceFill_14 (by decide) ?_
      refine lv_icmp_gt (tgt := 28) hx hb dX1_deviceFill_16 (by decide) (fun c4 => ?_) (fun c4 => ?_)
      · exact absurd c4 (nI_nlt hc (by decide))
      · refine lv_iload_n hx hb dX1_deviceFill_19 rfl (hc_g hl rfl) ?_
        refine lv_iload_n hx hb dX1_deviceFill_20 rfl (hc_g hl rfl) ?_
        refine hc_addN hx hb dX1_deviceFill_21 ?_
        refine lv_sipush (v := nI 256) hx hb dX1_deviceFill_22 (by decide) ?_
        refine lv_icmp_le (tgt := 31) hx hb dX1_deviceFill_25 (by decide) (fun c6 => ?_) (fun c6 => ?_)
        · refine lv_iconst (v := nI 0) hx hb dX1_deviceFill_31 (by decide) ?_
          refine lv_istore (lv' := [(4, .int (nI 0)), (0, .ref (ad 0)), (1, .int (nI j)), (2, .int (nI n)), (3, .int v)]) hx hb dX1_deviceFill_32 hl (by decide) rfl (fun ls hl => ?_)
          refine hc_loop (S := Unit) (fun i _ H locs ls => ∃ mem lin chg wrd : Nat → Int32, hInv fs ss (spFi M rs j v i).1 mem lin chg wrd ∧ xI D A H0 ad cA fs ss la mem lin chg wrd ((spFi M rs j v i).2) H locs ∧ lv_has ls 5 [(4, .int (nI i)), (0, .ref (ad 0)), (1, .int (nI j)), (2, .int (nI n)), (3, .int v)]) n (fun i _ H locs ls hi hI back => ?_) 0 () _ _ _ (Nat.zero_le _) ⟨_, _, _, _, h, I, lv_sub hl [0, 1, 2, 3, 4] rfl⟩
          clear h I
          obtain ⟨mem, lin, chg, wrd, h, I, hl⟩ := hI
          refine lv_iload hx hb dX1_deviceFill_34 (hc_g hl rfl) ?_
          refine lv_iload_n hx hb dX1_deviceFill_36 rfl (hc_g hl rfl) ?_
          refine lv_icmp_ge (tgt := 55) hx hb dX1_deviceFill_37 (by decide) (fun c7 => ?_) (fun c7 => ?_)
          · have hie : i = n := Nat.le_antisymm hi ((nI_leI (by omega) (by omega)).mp c7)
            subst hie
            refine lv_iload_n hx hb dX1_deviceFill_55 rfl (hc_g hl rfl) ?_
            exact ret _ _ _ _ _ _ _ _ _ _ (⟨rfl, h, rfl⟩) I dX1_deviceFill_56
          · have hlt : i < n := Nat.lt_of_not_le (fun h => c7 (nI_le h (by omega)))
            refine lv_aload_n hx hb dX1_deviceFill_40 rfl (hc_g hl rfl) ?_
            refine lv_iload_n hx hb dX1_deviceFill_41 rfl (hc_g hl rfl) ?_
            refine lv_iload hx hb dX1_deviceFill_42 (hc_g hl rfl) ?_
            refine hc_addN hx hb dX1_deviceFill_44 ?_
            refine lv_iload_n hx hb dX1_deviceFill_45 rfl (hc_g hl rfl) ?_
            refine x_callv [.int (nI (j + i)), .int v] (rest := []) C I hl.1 (met_devicePut hfs hss h (by omega)) (xw_devicePut C.1.2.2.2.2 rfl rfl ⟨by decide, by decide⟩) rfl rfl (Nat.le_of_ble_eq_true rfl) dX1_deviceFill_46 (fun mem_3 lin_3 chg_3 wrd_3 rs_3 H locs hp I => ?_)
            obtain ⟨h, rfl⟩ := hp
            refine lv_iinc (v := nI (i + 1)) (lv' := [(4, .int (nI (i + 1))), (0, .ref (ad 0)), (1, .int (nI j)), (2, .int (nI n)), (3, .int v)]) hx hb dX1_deviceFill_49 hl (k := 0) rfl (nI_1 _) (by decide) rfl (fun ls hl => ?_)
            refine lv_goto (tgt := 34) hx hb dX1_deviceFill_52 (by decide) ?_
            exact back hlt () _ _ _ ⟨_, _, _, _, h, I, lv_sub hl [0, 1, 2, 3, 4] rfl⟩
        · exact absurd (nI_le hjc (by decide)) c6
  · exact absurd rfl c1
theorem met_deviceFill {l : Launch} {D : va_G} {ad : Nat → Nat} {cA : Nat → ClassId} {fs ss : Nat} {la : Int32} {mem lin chg wrd : Nat → Int32} {rs : Int32} {M : Nat → Int32} {a n v : Int32} (hfs : fs < 2) (hss : ss < 2) (h : hInv fs ss M mem lin chg wrd) : xMi l yX1_deviceFill cX1_deviceFill 5 .int (rmF 4 91) D ad cA fs ss la mem lin chg wrd rs [.ref (ad 0), .int a, .int n, .int v] (xPost fs ss (sp_deviceFill M rs a n v)) := by
  rcases pk_ix a (n := 256) (by decide) with q | q | ⟨j, hj, rfl⟩
  · exact met_deviceFill_bad hfs hss h (Or.inl q)
  · exact met_deviceFill_bad hfs hss h (Or.inr q)
  · rcases spLen_fill n hj with q | ⟨c, hc, h1, rfl⟩
    · exact met_deviceFill_len hfs hss h hj q
    · exact met_deviceFill_good hfs hss h hj hc h1
set_option maxHeartbeats 4000000 in
theorem met_sum {l : Launch} {D : va_G} {ad : Nat → Nat} {cA : Nat → ClassId} {fs ss : Nat} {la : Int32} {mem lin chg wrd : Nat → Int32} {rs : Int32} {M : Nat → Int32} (hfs : fs < 2) (hss : ss < 2) (h : hInv fs ss M mem lin chg wrd) : xMi l yX1_sum cX1_sum 3 .int (rmF 4 90) D ad cA fs ss la mem lin chg wrd rs [.ref (ad 0)] (xPost fs ss (sp_sum M rs)) := by
  refine xMi_of rfl (by decide) (Nat.le_of_ble_eq_true rfl) (fun _ _ _ _ _ _ _ => rfl) ?_
  intro p e s m args below meth c Q A H0 ls C I hl ret
  have hx := C.1.1
  have hb := C.1.2.1
  have hl : lv_has ls 3 [(0, .ref (ad 0))] := hl
  refine lv_iconst (v := 0) hx hb dX1_sum_0 (by decide) ?_
  refine lv_istore_n (lv' := [(1, .int (0)), (0, .ref (ad 0))]) hx hb dX1_sum_1 rfl hl (by decide) rfl (fun ls hl => ?_)
  refine lv_iconst (v := nI 0) hx hb dX1_sum_2 (by decide) ?_
  refine lv_istore_n (lv' := [(2, .int (nI 0)), (1, .int (0)), (0, .ref (ad 0))]) hx hb dX1_sum_3 rfl hl (by decide) rfl (fun ls hl => ?_)
  refine hc_loop (S := Unit) (fun i _ H locs ls => xI D A H0 ad cA fs ss la mem lin chg wrd rs H locs ∧ lv_has ls 3 [(2, .int (nI i)), (1, .int (spSum M i)), (0, .ref (ad 0))]) 256 (fun i _ H locs ls hi hI back => ?_) 0 () _ _ _ (Nat.zero_le _) ⟨I, lv_sub hl [0, 1, 2] rfl⟩
  obtain ⟨I, hl⟩ := hI
  refine lv_iload_n hx hb dX1_sum_4 rfl (hc_g hl rfl) ?_
  refine lv_sipush (v := nI 256) hx hb dX1_sum_5 (by decide) ?_
  refine lv_icmp_ge (tgt := 25) hx hb dX1_sum_8 (by decide) (fun c1 => ?_) (fun c1 => ?_)
  · have hie : i = 256 := Nat.le_antisymm hi ((nI_leI (by omega) (by omega)).mp c1)
    subst hie
    refine lv_iload_n hx hb dX1_sum_25 rfl (hc_g hl rfl) ?_
    exact ret _ _ _ _ _ _ _ _ _ _ (⟨rfl, h, rfl⟩) I dX1_sum_26
  · have hlt : i < 256 := Nat.lt_of_not_le (fun h => c1 (nI_le h (by omega)))
    refine lv_iload_n hx hb dX1_sum_11 rfl (hc_g hl rfl) ?_
    refine lv_aload_n hx hb dX1_sum_12 rfl (hc_g hl rfl) ?_
    refine lv_iload_n hx hb dX1_sum_13 rfl (hc_g hl rfl) ?_
    refine x_callr [.int (nI i)] (rest := [.int (spSum M i)]) C I hl.1 (met_deviceWord hfs hss h hlt) (xw_deviceWord C.1.2.2.2.2 rfl rfl ⟨by decide, by decide⟩) rfl rfl (Nat.le_of_ble_eq_true rfl) dX1_sum_14 (fun r_1 H locs hr_1 I => ?_)
    subst hr_1
    refine lv_iadd hx hb dX1_sum_17 ?_
    refine hc_re (spSum M (i + 1)) (rfl) ?_
    refine lv_istore_n (lv' := [(1, .int (spSum M (i + 1))), (2, .int (nI i)), (0, .ref (ad 0))]) hx hb dX1_sum_18 rfl hl (by decide) rfl (fun ls hl => ?_)
    refine lv_iinc (v := nI (i + 1)) (lv' := [(2, .int (nI (i + 1))), (1, .int (spSum M (i + 1))), (0, .ref (ad 0))]) hx hb dX1_sum_19 hl (k := 1) rfl (nI_1 _) (by decide) rfl (fun ls hl => ?_)
    refine lv_goto (tgt := 4) hx hb dX1_sum_22 (by decide) ?_
    exact back hlt () _ _ _ ⟨I, lv_sub hl [0, 1, 2] rfl⟩
set_option maxHeartbeats 4000000 in
theorem met_reserved {l : Launch} {D : va_G} {ad : Nat → Nat} {cA : Nat → ClassId} {fs ss : Nat} {la : Int32} {mem lin chg wrd : Nat → Int32} {rs : Int32} {M : Nat → Int32} (h : hInv fs ss M mem lin chg wrd) : xMi l yX1_reserved cX1_reserved 1 .int (rmF 0 0) D ad cA fs ss la mem lin chg wrd rs [.ref (ad 0)] (xPost fs ss (sp_reserved M rs)) := by
  refine xMi_of rfl (by decide) (Nat.le_of_ble_eq_true rfl) (fun _ _ _ _ _ _ _ => rfl) ?_
  intro p e s m args below meth c Q A H0 ls C I hl ret
  have hx := C.1.1
  have hb := C.1.2.1
  have hl : lv_has ls 1 [(0, .ref (ad 0))] := hl
  refine lv_aload_n hx hb dX1_reserved_0 rfl (hc_g hl rfl) ?_
  refine xg_rs C I dX1_reserved_1 ?_
  exact ret _ _ _ _ _ _ _ _ _ _ (⟨rfl, h, rfl⟩) I dX1_reserved_4
end
section
/-! the world of a HiddenCachesModel (X2): its words and the word kept -/
set_option maxRecDepth 100000
abbrev yW (ad : Nat → Nat) (cA : Nat → ClassId) (mem : Nat → Int32) (rs : Int32) : va_W := [(ad 0, .inr (1, [.ref (ad 1), .int rs])), (ad 1, .inl (cA 1, 256, .inl mem))]
abbrev yT (cA : Nat → ClassId) : List (ClassId × FieldType) := [(cA 1, .int)]
def yI (D : va_G) (A : Nat → Prop) (H0 : Heap) (ad : Nat → Nat) (cA : Nat → ClassId) (mem : Nat → Int32) (rs : Int32) (H : Heap) (locs : List Loc) : Prop :=
  va_P D vwCl (yW ad cA mem rs) H ∧ va_D A (yW ad cA mem rs) ∧ va_S A H0 H locs
def yC (p : Program) (s : State) (m : MethodId) (args : Array Value) (c : Code) (cc : ByteArray) (nL : Nat) (D : va_G) (cA : Nat → ClassId) (A : Nat → Prop) (H0 : Heap) : Prop :=
  CallFix p m c cc nL s args lw_all RX2 ∧ va_K D vwCl (yT cA) s ∧ ∀ q, H0.size ≤ q → A q
section RWY
variable {p : Program} {l : Launch} {e : Env} {R : Room} {s : State} {m : MethodId} {args : Array Value} {below : List Frame} {meth : Method} {c : Code} {H : Heap} {locs : List Loc} {cells slots : Nat} {Q : State → Prop}
variable {cc : ByteArray} {pc : Nat} {ls : Array Slot} {rest : List Value}
variable {nL : Nat} {D : va_G} {A : Nat → Prop} {H0 : Heap} {ad : Nat → Nat} {cA : Nat → ClassId} {mem : Nat → Int32} {rs : Int32}
theorem yg_mem (C : yC p s m args c cc nL D cA A H0) (I : yI D A H0 ad cA mem rs H locs) (hdg : decode cc pc = .ok (.getfield 7, 3)) (kk : W p l e R s m args below meth c H locs cells slots Q (F0 m (pc + 3) ls (.ref (ad 1) :: rest))) : W p l e R s m args below meth c H locs cells slots Q (F0 m pc ls (.ref (ad 0) :: rest)) := by
  obtain ⟨hP, hD, hS⟩ := I
  exact va_get (D := D) (ci := 1) (v := .ref (ad 1)) (C := RX2) (T := TX2) (N := 2) C.1.1 C.1.2.1 C.1.2.2.2.2 in_X2 C.1.2.2.2.1 C.2.1 hP 0 rfl rfl 0 (by decide) (C.1.2.2.2.2 _ q227) (fun _ h9 => h9) rfl hdg kk
theorem yg_rs (C : yC p s m args c cc nL D cA A H0) (I : yI D A H0 ad cA mem rs H locs) (hdg : decode cc pc = .ok (.getfield 13, 3)) (kk : W p l e R s m args below meth c H locs cells slots Q (F0 m (pc + 3) ls (.int rs :: rest))) : W p l e R s m args below meth c H locs cells slots Q (F0 m pc ls (.ref (ad 0) :: rest)) := by
  obtain ⟨hP, hD, hS⟩ := I
  exact va_get (D := D) (ci := 1) (v := .int rs) (C := RX2) (T := TX2) (N := 2) C.1.1 C.1.2.1 C.1.2.2.2.2 in_X2 C.1.2.2.2.1 C.2.1 hP 0 rfl rfl 1 (by decide) (C.1.2.2.2.2 _ q228) (fun _ h9 => h9) rfl hdg kk
theorem yp_rs (C : yC p s m args c cc nL D cA A H0) (I : yI D A H0 ad cA mem rs H locs) {v : Int32} (hdg : decode cc pc = .ok (.putfield 13, 3)) (kk : ∀ (H1 : Heap) (locs1 : List Loc), yI D A H0 ad cA mem v H1 locs1 → W p l e R s m args below meth c H1 locs1 cells slots Q (F0 m (pc + 3) ls rest)) : W p l e R s m args below meth c H locs cells slots Q (F0 m pc ls (.int v :: .ref (ad 0) :: rest)) := by
  obtain ⟨hP, hD, hS⟩ := I
  exact va_put (D := D) (ci := 1) (v := .int v) (ty := .int) (C := RX2) (T := TX2) (N := 2) C.1.1 C.1.2.1 C.1.2.2.2.2 in_X2 tyX2 tyX2_ok nmX2 C.1.2.2.2.1 C.2.1 hP hD hS 0 rfl rfl 1 (by decide) (C.1.2.2.2.2 _ q228) (fun _ h9 => h9) rfl (by decide +kernel) rfl rfl (Nat.le_of_ble_eq_true rfl) hdg (fun H1 locs1 h1 h2 h3 => kk H1 locs1 ⟨h1, h2, h3⟩)
theorem yl_mem (C : yC p s m args c cc nL D cA A H0) (I : yI D A H0 ad cA mem rs H locs) {j : Nat} (hj : j < 256) (hdg : decode cc pc = .ok (.iaload, 1)) (kk : W p l e R s m args below meth c H locs cells slots Q (F0 m (pc + 1) ls (.int (mem j) :: rest))) : W p l e R s m args below meth c H locs cells slots Q (F0 m pc ls (.int (nI j) :: .ref (ad 1) :: rest)) := by
  obtain ⟨hP, hD, hS⟩ := I
  refine va_iald C.1.1 C.1.2.1 C.2.1 hP 1 0 rfl rfl (vp_in_nI hj (by omega)) hdg ?_
  rw [nI_clamp (by omega)]
  exact kk
theorem ys_mem (C : yC p s m args c cc nL D cA A H0) (I : yI D A H0 ad cA mem rs H locs) {j : Nat} {x : Int32} (hj : j < 256) (hdg : decode cc pc = .ok (.iastore, 1)) (kk : ∀ (H1 : Heap) (locs1 : List Loc), yI D A H0 ad cA (upd mem j x) rs H1 locs1 → W p l e R s m args below meth c H1 locs1 cells slots Q (F0 m (pc + 1) ls rest)) : W p l e R s m args below meth c H locs cells slots Q (F0 m pc ls (.int x :: .int (nI j) :: .ref (ad 1) :: rest)) := by
  obtain ⟨hP, hD, hS⟩ := I
  refine va_iast C.1.1 C.1.2.1 C.2.1 hP hD hS 1 0 rfl rfl (vp_in_nI hj (by omega)) hdg (fun H1 locs1 h1 h2 h3 => kk H1 locs1 ⟨?_, ?_, h3⟩)
  · rw [nI_clamp (by omega)] at h1; exact h1
  · rw [nI_clamp (by omega)] at h2; exact h2
end RWY
abbrev yS : Type := (Nat → Int32) × Int32
def yA (ad : Nat → Nat) (sz : Nat) : Nat → Prop := fun q => (∃ k, k < 2 ∧ q = ad k) ∨ sz ≤ q
def yPre (D : va_G) (ad : Nat → Nat) (cA : Nat → ClassId) (mem : Nat → Int32) (rs : Int32) (sz : Nat) (U : State) : Prop :=
  U.heap.size = sz ∧ va_P D vwCl (yW ad cA mem rs) U.heap ∧ va_K D vwCl (yT cA) U ∧ va_D (fun _ => True) (yW ad cA mem rs)
def yB (D : va_G) (ad : Nat → Nat) (cA : Nat → ClassId) (sz : Nat) (u : yS) (t : State) : Prop :=
  va_P D vwCl (yW ad cA u.1 u.2) t.heap ∧ va_K D vwCl (yT cA) t ∧ va_D (yA ad sz) (yW ad cA u.1 u.2)
abbrev yPo : Type := (Nat → Int32) → Int32 → Prop
def yMi (l : Launch) (y : MethodName) (b : ByteArray) (L : Nat) (rt : FieldType) (rm : Room) (D : va_G) (ad : Nat → Nat) (cA : Nat → ClassId) (mem : Nat → Int32) (rs : Int32) (As : List Value) (post : Int32 → yPo) : Prop :=
  ∀ sz, Met l y (ws_ y b L (some rt)) rm (va_Pc As (yPre D ad cA mem rs sz)) (va_Qi (fun r u => post r u.1 u.2) (yB D ad cA sz) (yA ad sz)) 0 0 (yA ad sz)
def yMv (l : Launch) (y : MethodName) (b : ByteArray) (L : Nat) (rm : Room) (D : va_G) (ad : Nat → Nat) (cA : Nat → ClassId) (mem : Nat → Int32) (rs : Int32) (As : List Value) (post : yPo) : Prop :=
  ∀ sz, Met l y (ws_ y b L none) rm (va_Pc As (yPre D ad cA mem rs sz)) (va_Qv (fun u => post u.1 u.2) (yB D ad cA sz) (yA ad sz)) 0 0 (yA ad sz)
abbrev yKeep (mem : Nat → Int32) (rs : Int32) (P : Int32 → Prop) : Int32 → yPo := fun r a f => P r ∧ a = mem ∧ f = rs
abbrev yPost (T : sT) : Int32 → yPo := fun r a f => r = T.1 ∧ a = T.2.1 ∧ f = T.2.2
theorem yA_self {ad : Nat → Nat} {sz : Nat} {A : Nat → Prop} {cA : Nat → ClassId} {mem : Nat → Int32} {rs : Int32} (h : va_D A (yW ad cA mem rs)) : va_D (yA ad sz) (yW ad cA mem rs) := by
  refine ⟨h.1, fun k q hk => ?_⟩
  match k, hk with
  | 0, hk => cases hk; exact Or.inl ⟨0, by decide, rfl⟩
  | 1, hk => cases hk; exact Or.inl ⟨1, by decide, rfl⟩
  | k + 2, hk => simp at hk
theorem yA_free {ad : Nat → Nat} {sz : Nat} {A : Nat → Prop} {cA : Nat → ClassId} {mem : Nat → Int32} {rs : Int32} (h : va_D A (yW ad cA mem rs)) (hA : ∀ q, sz ≤ q → A q) : ∀ q, yA ad sz q → A q := by
  intro q hq
  rcases hq with ⟨k, hk, rfl⟩ | hq
  · match k, hk with
    | 0, _ => exact h.2 0 _ rfl
    | 1, _ => exact h.2 1 _ rfl
    | k + 2, hk => omega
  · exact hA q hq
theorem yPre_blind {D : va_G} {ad : Nat → Nat} {cA : Nat → ClassId} {mem : Nat → Int32} {rs : Int32} {sz : Nat} {As : List Value} : FrameBlind (va_Pc As (yPre D ad cA mem rs sz)) := by
  intro a U g mk q
  obtain ⟨q0, q1, qP, qK, qD⟩ := q
  exact ⟨q0, q1, qP, va_K.moved (u := U) (U := U.calling g mk a) (Vm.Alike.refl U.vm) qK, qD⟩
section METY
variable {l : Launch} {y : MethodName} {b : ByteArray} {L : Nat} {rt : FieldType} {rm : Room} {D : va_G} {ad : Nat → Nat} {cA : Nat → ClassId} {mem : Nat → Int32} {rs : Int32} {As : List Value}
theorem yMi_of {post : Int32 → yPo} (hy : y.cls = RX2) (hpl : plainName y.cls = true) (hL : (lg_sl As).length ≤ L) (hn : ∀ r x1 x2, post r x1 x2 → narrow rt (.int r) = .int r)
    (body : ∀ (p : Program) (e : Env) (s : State) (m : MethodId) (args : Array Value) (below : List Frame) (meth : Method) (c : Code) (Q : State → Prop) (A : Nat → Prop) (H : Heap) (ls : Array Slot), yC p s m args c b L D cA A H → yI D A H ad cA mem rs H [] → lv_has ls L (lv_args 0 As) →
      (∀ (r : Int32) (mem' : Nat → Int32) (rs' : Int32) (H' : Heap) (locs : List Loc) (pc : Nat) (ls : Array Slot), post r mem' rs' → yI D A H ad cA mem' rs' H' locs → decode b pc = .ok (.ireturn, 1) → W p l e rm s m args below meth c H' locs 0 0 Q (F0 m pc ls [.int r])) →
      W p l e rm s m args below meth c H [] 0 0 Q (F0 m 0 ls [])) : yMi l y b L rt rm D ad cA mem rs As post := by
  intro sz
  refine Met.ofW (cc := b) (maxL := L) (ret := some rt) hpl rfl ?_
  intro p e s m args below meth c s₁ B hml hv
  obtain ⟨rfl, hsz, hP, hK, hD0⟩ := hv
  have hts := atoms_spec (ws := ws_ y b L (some rt)) B.pre
  have hts : ∀ w ∈ lw_all, w.before _ s = true := fun w h => hts w (List.mem_cons_of_mem _ h)
  have hown : s.vm.findClass RX2 = some m.cls := by rw [← hy]; exact findClass_of_methodNamed B.named
  have hlocks := B.notSynchronized
  subst hsz
  have hl := lv_entry As (n := L) hL
  rw [lg_entry_eq]
  refine body p e s m _ below meth c _ (yA ad s.heap.size) s.heap _ ⟨⟨B.exec, B.bytes, hml, hown, hts⟩, hK, fun q h => Or.inr h⟩ ⟨hP, yA_self hD0, va_S.rf⟩ hl ?_
  intro r mem' rs' H' locs pc ls hp I hdg
  obtain ⟨hP', hD', hS'⟩ := I
  exact W.zret (v := r) B.exec B.bytes B.returns (hn _ _ _ hp) (fun t ht hW => ⟨⟨r, (mem', rs'), rfl, hp, by rw [ht]; exact hP', va_K.moved hW.alike hK, hD'⟩, hS'.F ht⟩) hS'.2.2 hdg
theorem yMv_of {post : yPo} (hy : y.cls = RX2) (hpl : plainName y.cls = true) (hL : (lg_sl As).length ≤ L)
    (body : ∀ (p : Program) (e : Env) (s : State) (m : MethodId) (args : Array Value) (below : List Frame) (meth : Method) (c : Code) (Q : State → Prop) (A : Nat → Prop) (H : Heap) (ls : Array Slot), yC p s m args c b L D cA A H → yI D A H ad cA mem rs H [] → lv_has ls L (lv_args 0 As) →
      (∀ (mem' : Nat → Int32) (rs' : Int32) (H' : Heap) (locs : List Loc) (pc : Nat) (ls : Array Slot), post mem' rs' → yI D A H ad cA mem' rs' H' locs → decode b pc = .ok (.return_, 1) → W p l e rm s m args below meth c H' locs 0 0 Q (F0 m pc ls [])) →
      W p l e rm s m args below meth c H [] 0 0 Q (F0 m 0 ls [])) : yMv l y b L rm D ad cA mem rs As post := by
  intro sz
  refine Met.ofW (cc := b) (maxL := L) (ret := none) hpl rfl ?_
  intro p e s m args below meth c s₁ B hml hv
  obtain ⟨rfl, hsz, hP, hK, hD0⟩ := hv
  have hts := atoms_spec (ws := ws_ y b L none) B.pre
  have hts : ∀ w ∈ lw_all, w.before _ s = true := fun w h => hts w (List.mem_cons_of_mem _ h)
  have hown : s.vm.findClass RX2 = some m.cls := by rw [← hy]; exact findClass_of_methodNamed B.named
  have hlocks := B.notSynchronized
  subst hsz
  have hl := lv_entry As (n := L) hL
  rw [lg_entry_eq]
  refine body p e s m _ below meth c _ (yA ad s.heap.size) s.heap _ ⟨⟨B.exec, B.bytes, hml, hown, hts⟩, hK, fun q h => Or.inr h⟩ ⟨hP, yA_self hD0, va_S.rf⟩ hl ?_
  intro mem' rs' H' locs pc ls hp I hdg
  obtain ⟨hP', hD', hS'⟩ := I
  exact W.vret B.exec B.bytes B.returns (fun t ht hW => ⟨⟨(mem', rs'), rfl, hp, by rw [ht]; exact hP', va_K.moved hW.alike hK, hD'⟩, hS'.F ht⟩) hS'.2.2 hdg
end METY
section CALLY
variable {p : Program} {l : Launch} {e : Env} {R : Room} {s : State} {m : MethodId} {args : Array Value} {below : List Frame} {meth : Method} {c : Code} {H : Heap} {locs : List Loc} {Q : State → Prop}
variable {cc : ByteArray} {pc : Nat} {ls : Array Slot} {rest : List Value}
variable {nL : Nat} {D : va_G} {A : Nat → Prop} {H0 : Heap} {ad : Nat → Nat} {cA : Nat → ClassId} {mem : Nat → Int32} {rs : Int32}
variable {y : MethodName} {b : ByteArray} {Ly n index : Nat} {rt : FieldType} {rm : Room} {st0 : List Value}
/-- the same for the Model: a call of its own methods, by its contract -/
theorem y_calli (As : List Value) {post : Int32 → yPo} (C : yC p s m args c cc nL D cA A H0) (I : yI D A H0 ad cA mem rs H locs) (hl : ls.size = nL) (hM : yMi l y b Ly rt rm D ad cA mem rs (.ref (ad 0) :: As) post) (cw : CallW R s args RX2 RX2 index y b Ly (some rt) (ws_ y b Ly (some rt)) rm 0 0 n) (hn : As.length = n) (hst : st0 = As.reverse ++ .ref (ad 0) :: rest) (hrm : (rest.map fun v => v.category).sum ≤ 8) (hdg : decode cc pc = .ok (.invokevirtual index, 3))
    (kk : ∀ (r : Int32) (mem' : Nat → Int32) (rs' : Int32) (H' : Heap) (locs' : List Loc), post r mem' rs' → yI D A H0 ad cA mem' rs' H' locs' → W p l e R s m args below meth c H' locs' 0 0 Q (F0 m (pc + 3) ls (.int r :: rest))) : W p l e R s m args below meth c H locs 0 0 Q (F0 m pc ls st0) := by
  subst hst
  obtain ⟨hP, hD, hS⟩ := I
  have hF := yA_free (sz := H.size) hD (fun q h => C.2.2 q (Nat.le_trans hS.1 h))
  refine va_calli (va_runV (As := As) (rest := rest) C.1 (hM H.size) cw ⟨yPre_blind, va_recv C.2.1 hP (ci := 1) (q0 := 0) rfl rfl, fun U hU hW => ⟨rfl, by rw [hU], by rw [hU]; exact hP, va_K.moved hW.alike C.2.1, hD.weaken (fun _ _ _ _ => trivial)⟩⟩ rfl hn hl rfl (lv_room hrm) hdg ⟨Nat.zero_le _, Nat.zero_le _⟩) hS (fun q _ h => hF q h) hF (fun r u t H1 locs1 ht hvm hp hB hz hk hS1 => ?_)
  obtain ⟨hP', hK', hD'⟩ := hB
  rw [ht] at hP'
  exact kk r u.1 u.2 H1 locs1 hp ⟨hP', hD'.weaken (fun _ _ _ h => hF _ h), hS1⟩
theorem y_callv (As : List Value) {post : yPo} (C : yC p s m args c cc nL D cA A H0) (I : yI D A H0 ad cA mem rs H locs) (hl : ls.size = nL) (hM : yMv l y b Ly rm D ad cA mem rs (.ref (ad 0) :: As) post) (cw : CallW R s args RX2 RX2 index y b Ly none (ws_ y b Ly none) rm 0 0 n) (hn : As.length = n) (hst : st0 = As.reverse ++ .ref (ad 0) :: rest) (hrm : (rest.map fun v => v.category).sum ≤ 8) (hdg : decode cc pc = .ok (.invokevirtual index, 3))
    (kk : ∀ (mem' : Nat → Int32) (rs' : Int32) (H' : Heap) (locs' : List Loc), post mem' rs' → yI D A H0 ad cA mem' rs' H' locs' → W p l e R s m args below meth c H' locs' 0 0 Q (F0 m (pc + 3) ls rest)) : W p l e R s m args below meth c H locs 0 0 Q (F0 m pc ls st0) := by
  subst hst
  obtain ⟨hP, hD, hS⟩ := I
  have hF := yA_free (sz := H.size) hD (fun q h => C.2.2 q (Nat.le_trans hS.1 h))
  refine va_callv (va_runV (As := As) (rest := rest) C.1 (hM H.size) cw ⟨yPre_blind, va_recv C.2.1 hP (ci := 1) (q0 := 0) rfl rfl, fun U hU hW => ⟨rfl, by rw [hU], by rw [hU]; exact hP, va_K.moved hW.alike C.2.1, hD.weaken (fun _ _ _ _ => trivial)⟩⟩ rfl hn hl rfl (lv_room hrm) hdg ⟨Nat.zero_le _, Nat.zero_le _⟩) hS (fun q _ h => hF q h) hF (fun u t H1 locs1 ht hvm hp hB hz hk hS1 => ?_)
  obtain ⟨hP', hK', hD'⟩ := hB
  rw [ht] at hP'
  exact kk u.1 u.2 H1 locs1 hp ⟨hP', hD'.weaken (fun _ _ _ h => hF _ h), hS1⟩
/-- a call of the static one -/
theorem y_calls (As : List Value) {post : Int32 → yPo} (C : yC p s m args c cc nL D cA A H0) (I : yI D A H0 ad cA mem rs H locs) (hl : ls.size = nL) (hM : yMi l y b Ly rt rm D ad cA mem rs As post) (cw : CallB R s args RX2 index y b Ly (some rt) (ws_ y b Ly (some rt)) rm 0 0 n ∧ (Cond.static y).before args s = true) (hn : As.length = n) (hst : st0 = As.reverse ++ rest) (hrm : (rest.map fun v => v.category).sum ≤ 8) (hdg : decode cc pc = .ok (.invokestatic index, 3))
    (kk : ∀ (r : Int32) (mem' : Nat → Int32) (rs' : Int32) (H' : Heap) (locs' : List Loc), post r mem' rs' → yI D A H0 ad cA mem' rs' H' locs' → W p l e R s m args below meth c H' locs' 0 0 Q (F0 m (pc + 3) ls (.int r :: rest))) : W p l e R s m args below meth c H locs 0 0 Q (F0 m pc ls st0) := by
  subst hst
  obtain ⟨hP, hD, hS⟩ := I
  have hF := yA_free (sz := H.size) hD (fun q h => C.2.2 q (Nat.le_trans hS.1 h))
  refine va_calli (va_runS (As := As) (rest := rest) C.1 (hM H.size) cw ⟨yPre_blind, fun U hU hW => ⟨rfl, by rw [hU], by rw [hU]; exact hP, va_K.moved hW.alike C.2.1, hD.weaken (fun _ _ _ _ => trivial)⟩⟩ rfl hn hl rfl (lv_room hrm) hdg ⟨Nat.zero_le _, Nat.zero_le _⟩) hS (fun q _ h => hF q h) hF (fun r u t H1 locs1 ht hvm hp hB hz hk hS1 => ?_)
  obtain ⟨hP', hK', hD'⟩ := hB
  rw [ht] at hP'
  exact kk r u.1 u.2 H1 locs1 hp ⟨hP', hD'.weaken (fun _ _ _ h => hF _ h), hS1⟩
/-- a call that changes nothing of the picture -/
theorem y_callr (As : List Value) {P : Int32 → Prop} (C : yC p s m args c cc nL D cA A H0) (I : yI D A H0 ad cA mem rs H locs) (hl : ls.size = nL) (hM : yMi l y b Ly rt rm D ad cA mem rs (.ref (ad 0) :: As) (yKeep mem rs P)) (cw : CallW R s args RX2 RX2 index y b Ly (some rt) (ws_ y b Ly (some rt)) rm 0 0 n) (hn : As.length = n) (hst : st0 = As.reverse ++ .ref (ad 0) :: rest) (hrm : (rest.map fun v => v.category).sum ≤ 8) (hdg : decode cc pc = .ok (.invokevirtual index, 3))
    (kk : ∀ (r : Int32) (H' : Heap) (locs' : List Loc), P r → yI D A H0 ad cA mem rs H' locs' → W p l e R s m args below meth c H' locs' 0 0 Q (F0 m (pc + 3) ls (.int r :: rest))) : W p l e R s m args below meth c H locs 0 0 Q (F0 m pc ls st0) := by
  refine y_calli As C I hl hM cw hn hst hrm hdg (fun r mem' rs' H' locs' hp I' => ?_)
  obtain ⟨hp, rfl, rfl⟩ := hp
  exact kk r H' locs' hp I'
theorem y_callsr (As : List Value) {P : Int32 → Prop} (C : yC p s m args c cc nL D cA A H0) (I : yI D A H0 ad cA mem rs H locs) (hl : ls.size = nL) (hM : yMi l y b Ly rt rm D ad cA mem rs As (yKeep mem rs P)) (cw : CallB R s args RX2 index y b Ly (some rt) (ws_ y b Ly (some rt)) rm 0 0 n ∧ (Cond.static y).before args s = true) (hn : As.length = n) (hst : st0 = As.reverse ++ rest) (hrm : (rest.map fun v => v.category).sum ≤ 8) (hdg : decode cc pc = .ok (.invokestatic index, 3))
    (kk : ∀ (r : Int32) (H' : Heap) (locs' : List Loc), P r → yI D A H0 ad cA mem rs H' locs' → W p l e R s m args below meth c H' locs' 0 0 Q (F0 m (pc + 3) ls (.int r :: rest))) : W p l e R s m args below meth c H locs 0 0 Q (F0 m pc ls st0) := by
  refine y_calls As C I hl hM cw hn hst hrm hdg (fun r mem' rs' H' locs' hp I' => ?_)
  obtain ⟨hp, rfl, rfl⟩ := hp
  exact kk r H' locs' hp I'
end CALLY
end
section
set_option maxRecDepth 100000
theorem yw_isWord {R : Room} {s : State} {args : Array Value} {rm : Room} {mc ms : Nat} (ht : ∀ w ∈ lw_all, w.before args s = true) (hc : rm.cells = mc) (hs : rm.slots = ms) (hR : rm.frames + 1 ≤ R.frames ∧ 8 + (2 + 11) + rm.locals ≤ R.locals) : CallW R s args RX2 RX2 17 yX2_isWord cX2_isWord 2 (some .boolean) (ws_ yX2_isWord cX2_isWord 2 (some .boolean)) rm mc ms 1 := cwV 1 ht (lw_V q238 q240 qs21 q26 q241) rfl hc hs (by decide +kernel) hR
theorem yw_isByte {R : Room} {s : State} {args : Array Value} {rm : Room} {mc ms : Nat} (ht : ∀ w ∈ lw_all, w.before args s = true) (hc : rm.cells = mc) (hs : rm.slots = ms) (hR : rm.frames + 1 ≤ R.frames ∧ 8 + (2 + 11) + rm.locals ≤ R.locals) : CallW R s args RX2 RX2 25 yX2_isByte cX2_isByte 2 (some .boolean) (ws_ yX2_isByte cX2_isByte 2 (some .boolean)) rm mc ms 1 := cwV 1 ht (lw_V q254 q256 qs23 q26 q257) rfl hc hs (by decide +kernel) hR
theorem yw_write {R : Room} {s : State} {args : Array Value} {rm : Room} {mc ms : Nat} (ht : ∀ w ∈ lw_all, w.before args s = true) (hc : rm.cells = mc) (hs : rm.slots = ms) (hR : rm.frames + 1 ≤ R.frames ∧ 8 + (3 + 11) + rm.locals ≤ R.locals) : CallW R s args RX2 RX2 21 yX2_write cX2_write 3 none (ws_ yX2_write cX2_write 3 none) rm mc ms 2 := cwV 2 ht (lw_V q246 q248 qs22 q26 q249) rfl hc hs (by decide +kernel) hR
theorem yw_load {R : Room} {s : State} {args : Array Value} {rm : Room} {mc ms : Nat} (ht : ∀ w ∈ lw_all, w.before args s = true) (hc : rm.cells = mc) (hs : rm.slots = ms) (hR : rm.frames + 1 ≤ R.frames ∧ 8 + (2 + 11) + rm.locals ≤ R.locals) : CallW R s args RX2 RX2 28 yX2_load cX2_load 2 (some .int) (ws_ yX2_load cX2_load 2 (some .int)) rm mc ms 1 := cwV 1 ht (lw_V q266 q235 q236 q26 q237) rfl hc hs (by decide +kernel) hR
theorem yw_store {R : Room} {s : State} {args : Array Value} {rm : Room} {mc ms : Nat} (ht : ∀ w ∈ lw_all, w.before args s = true) (hc : rm.cells = mc) (hs : rm.slots = ms) (hR : rm.frames + 1 ≤ R.frames ∧ 8 + (3 + 11) + rm.locals ≤ R.locals) : CallW R s args RX2 RX2 32 yX2_store cX2_store 3 (some .int) (ws_ yX2_store cX2_store 3 (some .int)) rm mc ms 2 := cwV 2 ht (lw_V q267 q243 q244 q26 q245) rfl hc hs (by decide +kernel) hR
section CALLT
variable {p : Program} {l : Launch} {e : Env} {R : Room} {s : State} {m : MethodId} {args : Array Value} {below : List Frame} {meth : Method} {c : Code} {H : Heap} {locs : List Loc} {Q : State → Prop}
variable {cc : ByteArray} {pc : Nat} {ls : Array Slot} {rest : List Value}
variable {nL : Nat} {D : va_G} {A : Nat → Prop} {H0 : Heap} {ad : Nat → Nat} {cA : Nat → ClassId} {mem : Nat → Int32} {rs : Int32}
variable {y : MethodName} {b : ByteArray} {Ly n index : Nat} {rt : FieldType} {rm : Room} {st0 : List Value}
/-- a call whose answer and state are told by a triple -/
theorem y_callT (As : List Value) {T : sT} (r0 : Int32) (M0 : Nat → Int32) (f0 : Int32) (hT : T = (r0, M0, f0)) (C : yC p s m args c cc nL D cA A H0) (I : yI D A H0 ad cA mem rs H locs) (hl : ls.size = nL) (hM : yMi l y b Ly rt rm D ad cA mem rs (.ref (ad 0) :: As) (yPost T)) (cw : CallW R s args RX2 RX2 index y b Ly (some rt) (ws_ y b Ly (some rt)) rm 0 0 n) (hn : As.length = n) (hst : st0 = As.reverse ++ .ref (ad 0) :: rest) (hrm : (rest.map fun v => v.category).sum ≤ 8) (hdg : decode cc pc = .ok (.invokevirtual index, 3))
    (kk : ∀ (H' : Heap) (locs' : List Loc), yI D A H0 ad cA M0 f0 H' locs' → W p l e R s m args below meth c H' locs' 0 0 Q (F0 m (pc + 3) ls (.int r0 :: rest))) : W p l e R s m args below meth c H locs 0 0 Q (F0 m pc ls st0) := by
  refine y_calli As C I hl hM cw hn hst hrm hdg (fun r mem' rs' H' locs' hp I' => ?_)
  subst hT
  obtain ⟨e1, e2, e3⟩ := hp
  dsimp only at e1 e2 e3
  subst e1
  rw [e2, e3] at I'
  exact kk H' locs' I'
end CALLT
set_option maxHeartbeats 4000000 in
theorem my_isWord_good {l : Launch} {D : va_G} {ad : Nat → Nat} {cA : Nat → ClassId} {mem : Nat → Int32} {rs : Int32} {j : Nat} (hj : j < 256) : yMi l yX2_isWord cX2_isWord 2 .boolean (rmF 0 0) D ad cA mem rs [.ref (ad 0), .int (nI j)] (yKeep mem rs (fun r => r = 1)) := by
  refine yMi_of rfl (by decide) (Nat.le_of_ble_eq_true rfl) (fun r _ _ h => by rw [h.1]; rfl) ?_
  intro p e s m args below meth c Q A H0 ls C I hl ret
  have hx := C.1.1
  have hb := C.1.2.1
  have hl : lv_has ls 2 [(0, .ref (ad 0)), (1, .int (nI j))] := hl
  refine lv_iload_n hx hb dX2_isWord_0 rfl (hc_g hl rfl) ?_
  refine lv_if_lt (tgt := 15) hx hb dX2_isWord_1 (by decide) (fun c1 => ?_) (fun c1 => ?_)
  · exact absurd c1 (nI_pos (by omega))
  · refine lv_iload_n hx hb dX2_isWord_4 rfl (hc_g hl rfl) ?_
    refine lv_sipush (v := nI 256) hx hb dX2_isWord_5 (by decide) ?_
    refine lv_icmp_ge (tgt := 15) hx hb dX2_isWord_8 (by decide) (fun c2 => ?_) (fun c2 => ?_)
    · exact absurd c2 (nI_ge hj (by decide))
    · refine lv_iconst (v := 1) hx hb dX2_isWord_11 (by decide) ?_
      refine lv_goto (tgt := 16) hx hb dX2_isWord_12 (by decide) ?_
      exact ret _ _ _ _ _ _ _ (⟨rfl, rfl, rfl⟩) I dX2_isWord_16
set_option maxHeartbeats 4000000 in
theorem my_isWord_bad {l : Launch} {D : va_G} {ad : Nat → Nat} {cA : Nat → ClassId} {mem : Nat → Int32} {rs : Int32} {a : Int32} (hbad : spBad a 256) : yMi l yX2_isWord cX2_isWord 2 .boolean (rmF 0 0) D ad cA mem rs [.ref (ad 0), .int a] (yKeep mem rs (fun r => r = 0)) := by
  refine yMi_of rfl (by decide) (Nat.le_of_ble_eq_true rfl) (fun r _ _ h => by rw [h.1]; rfl) ?_
  intro p e s m args below meth c Q A H0 ls C I hl ret
  have hx := C.1.1
  have hb := C.1.2.1
  have hl : lv_has ls 2 [(0, .ref (ad 0)), (1, .int a)] := hl
  refine lv_iload_n hx hb dX2_isWord_0 rfl (hc_g hl rfl) ?_
  refine lv_if_lt (tgt := 15) hx hb dX2_isWord_1 (by decide) (fun c1 => ?_) (fun c1 => ?_)
  · refine lv_iconst (v := 0) hx hb dX2_isWord_15 (by decide) ?_
    exact ret _ _ _ _ _ _ _ (⟨rfl, rfl, rfl⟩) I dX2_isWord_16
  · refine lv_iload_n hx hb dX2_isWord_4 rfl (hc_g hl rfl) ?_
    refine lv_sipush (v := nI 256) hx hb dX2_isWord_5 (by decide) ?_
    refine lv_icmp_ge (tgt := 15) hx hb dX2_isWord_8 (by decide) (fun c2 => ?_) (fun c2 => ?_)
    · refine lv_iconst (v := 0) hx hb dX2_isWord_15 (by decide) ?_
      exact ret _ _ _ _ _ _ _ (⟨rfl, rfl, rfl⟩) I dX2_isWord_16
    · exact absurd (Or.resolve_left hbad c1) c2
set_option maxHeartbeats 4000000 in
theorem my_isByte_good {l : Launch} {D : va_G} {ad : Nat → Nat} {cA : Nat → ClassId} {mem : Nat → Int32} {rs : Int32} {j : Nat} (hj : j < 1024) : yMi l yX2_isByte cX2_isByte 2 .boolean (rmF 0 0) D ad cA mem rs [.ref (ad 0), .int (nI j)] (yKeep mem rs (fun r => r = 1)) := by
  refine yMi_of rfl (by decide) (Nat.le_of_ble_eq_true rfl) (fun r _ _ h => by rw [h.1]; rfl) ?_
  intro p e s m args below meth c Q A H0 ls C I hl ret
  have hx := C.1.1
  have hb := C.1.2.1
  have hl : lv_has ls 2 [(0, .ref (ad 0)), (1, .int (nI j))] := hl
  refine lv_iload_n hx hb dX2_isByte_0 rfl (hc_g hl rfl) ?_
  refine lv_if_lt (tgt := 15) hx hb dX2_isByte_1 (by decide) (fun c1 => ?_) (fun c1 => ?_)
  · exact absurd c1 (nI_pos (by omega))
  · refine lv_iload_n hx hb dX2_isByte_4 rfl (hc_g hl rfl) ?_
    refine lv_sipush (v := nI 1024) hx hb dX2_isByte_5 (by decide) ?_
    refine lv_icmp_ge (tgt := 15) hx hb dX2_isByte_8 (by decide) (fun c2 => ?_) (fun c2 => ?_)
    · exact absurd c2 (nI_ge hj (by decide))
    · refine lv_iconst (v := 1) hx hb dX2_isByte_11 (by decide) ?_
      refine lv_goto (tgt := 16) hx hb dX2_isByte_12 (by decide) ?_
      exact ret _ _ _ _ _ _ _ (⟨rfl, rfl, rfl⟩) I dX2_isByte_16
set_option maxHeartbeats 4000000 in
theorem my_isByte_bad {l : Launch} {D : va_G} {ad : Nat → Nat} {cA : Nat → ClassId} {mem : Nat → Int32} {rs : Int32} {a : Int32} (hbad : spBad a 1024) : yMi l yX2_isByte cX2_isByte 2 .boolean (rmF 0 0) D ad cA mem rs [.ref (ad 0), .int a] (yKeep mem rs (fun r => r = 0)) := by
  refine yMi_of rfl (by decide) (Nat.le_of_ble_eq_true rfl) (fun r _ _ h => by rw [h.1]; rfl) ?_
  intro p e s m args below meth c Q A H0 ls C I hl ret
  have hx := C.1.1
  have hb := C.1.2.1
  have hl : lv_has ls 2 [(0, .ref (ad 0)), (1, .int a)] := hl
  refine lv_iload_n hx hb dX2_isByte_0 rfl (hc_g hl rfl) ?_
  refine lv_if_lt (tgt := 15) hx hb dX2_isByte_1 (by decide) (fun c1 => ?_) (fun c1 => ?_)
  · refine lv_iconst (v := 0) hx hb dX2_isByte_15 (by decide) ?_
    exact ret _ _ _ _ _ _ _ (⟨rfl, rfl, rfl⟩) I dX2_isByte_16
  · refine lv_iload_n hx hb dX2_isByte_4 rfl (hc_g hl rfl) ?_
    refine lv_sipush (v := nI 1024) hx hb dX2_isByte_5 (by decide) ?_
    refine lv_icmp_ge (tgt := 15) hx hb dX2_isByte_8 (by decide) (fun c2 => ?_) (fun c2 => ?_)
    · refine lv_iconst (v := 0) hx hb dX2_isByte_15 (by decide) ?_
      exact ret _ _ _ _ _ _ _ (⟨rfl, rfl, rfl⟩) I dX2_isByte_16
    · exact absurd (Or.resolve_left hbad c1) c2
set_option maxHeartbeats 4000000 in
theorem my_write {l : Launch} {D : va_G} {ad : Nat → Nat} {cA : Nat → ClassId} {mem : Nat → Int32} {rs : Int32} {j : Nat} {v : Int32} (hj : j < 256) : yMv l yX2_write cX2_write 3 (rmF 0 0) D ad cA mem rs [.ref (ad 0), .int (nI j), .int v] (fun a f => upd mem j v = a ∧ sp_kill rs (nI j) = f) := by
  refine yMv_of rfl (by decide) (Nat.le_of_ble_eq_true rfl) ?_
  intro p e s m args below meth c Q A H0 ls C I hl ret
  have hx := C.1.1
  have hb := C.1.2.1
  have hl : lv_has ls 3 [(0, .ref (ad 0)), (1, .int (nI j)), (2, .int v)] := hl
  refine lv_aload_n hx hb dX2_write_0 rfl (hc_g hl rfl) ?_
  refine yg_mem C I dX2_write_1 ?_
  refine lv_iload_n hx hb dX2_write_4 rfl (hc_g hl rfl) ?_
  refine lv_iload_n hx hb dX2_write_5 rfl (hc_g hl rfl) ?_
  refine ys_mem C I (by omega) dX2_write_6 (fun H locs I => ?_)
  refine lv_aload_n hx hb dX2_write_7 rfl (hc_g hl rfl) ?_
  refine yg_rs C I dX2_write_8 ?_
  refine lv_iload_n hx hb dX2_write_11 rfl (hc_g hl rfl) ?_
  refine lv_icmp_ne (tgt := 20) hx hb dX2_write_12 (by decide) (fun c1 => ?_) (fun c1 => ?_)
  · exact ret _ _ _ _ _ _ (⟨rfl, sp_kill_ne c1⟩) I dX2_write_20
  · refine lv_aload_n hx hb dX2_write_15 rfl (hc_g hl rfl) ?_
    refine lv_iconst (v := -1) hx hb dX2_write_16 (by decide) ?_
    refine yp_rs C I dX2_write_17 (fun H locs I => ?_)
    exact ret _ _ _ _ _ _ (⟨rfl, sp_kill_eq c1⟩) I dX2_write_20
set_option maxHeartbeats 4000000 in
theorem my_load_bad {l : Launch} {D : va_G} {ad : Nat → Nat} {cA : Nat → ClassId} {mem : Nat → Int32} {rs : Int32} {a : Int32} (hbad : spBad a 256) : yMi l yX2_load cX2_load 2 .int (rmF 1 21) D ad cA mem rs [.ref (ad 0), .int a] (yPost (sp_load mem rs a)) := by
  rw [sp_load_bad hbad]
  refine yMi_of rfl (by decide) (Nat.le_of_ble_eq_true rfl) (fun _ _ _ _ => rfl) ?_
  intro p e s m args below meth c Q A H0 ls C I hl ret
  have hx := C.1.1
  have hb := C.1.2.1
  have hl : lv_has ls 2 [(0, .ref (ad 0)), (1, .int a)] := hl
  refine lv_aload_n hx hb dX2_load_0 rfl (hc_g hl rfl) ?_
  refine lv_iload_n hx hb dX2_load_1 rfl (hc_g hl rfl) ?_
  refine y_callr [.int a] (rest := []) C I hl.1 (my_isWord_bad hbad) (yw_isWord C.1.2.2.2.2 rfl rfl ⟨by decide, by decide⟩) rfl rfl (Nat.le_of_ble_eq_true rfl) dX2_load_2 (fun r_1 H locs hr_1 I => ?_)
  subst hr_1
  refine lv_if_eq (tgt := 17) hx hb dX2_load_5 (by decide) (fun c1 => ?_) (fun c1 => ?_)
  · refine lv_iconst (v := -1) hx hb dX2_load_17 (by decide) ?_
    exact ret _ _ _ _ _ _ _ (⟨rfl, rfl, rfl⟩) I dX2_load_18
  · exact absurd rfl c1
set_option maxHeartbeats 4000000 in
theorem my_load_good {l : Launch} {D : va_G} {ad : Nat → Nat} {cA : Nat → ClassId} {mem : Nat → Int32} {rs : Int32}  {j : Nat} (hj : j < 256) : yMi l yX2_load cX2_load 2 .int (rmF 1 21) D ad cA mem rs [.ref (ad 0), .int (nI j)] (yPost (sp_load mem rs (nI j))) := by
  rw [sp_load_good hj]
  refine yMi_of rfl (by decide) (Nat.le_of_ble_eq_true rfl) (fun _ _ _ _ => rfl) ?_
  intro p e s m args below meth c Q A H0 ls C I hl ret
  have hx := C.1.1
  have hb := C.1.2.1
  have hl : lv_has ls 2 [(0, .ref (ad 0)), (1, .int (nI j))] := hl
  refine lv_aload_n hx hb dX2_load_0 rfl (hc_g hl rfl) ?_
  refine lv_iload_n hx hb dX2_load_1 rfl (hc_g hl rfl) ?_
  refine y_callr [.int (nI j)] (rest := []) C I hl.1 (my_isWord_good hj) (yw_isWord C.1.2.2.2.2 rfl rfl ⟨by decide, by decide⟩) rfl rfl (Nat.le_of_ble_eq_true rfl) dX2_load_2 (fun r_1 H locs hr_1 I => ?_)
  subst hr_1
  refine lv_if_eq (tgt := 17) hx hb dX2_load_5 (by decide) (fun c1 => ?_) (fun c1 => ?_)
  · exact absurd c1 (by decide)
  · refine lv_aload_n hx hb dX2_load_8 rfl (hc_g hl rfl) ?_
    refine yg_mem C I dX2_load_9 ?_
    refine lv_iload_n hx hb dX2_load_12 rfl (hc_g hl rfl) ?_
    refine yl_mem C I (by omega) dX2_load_13 ?_
    refine lv_goto (tgt := 18) hx hb dX2_load_14 (by decide) ?_
    exact ret _ _ _ _ _ _ _ (⟨rfl, rfl, rfl⟩) I dX2_load_18
theorem my_load {l : Launch} {D : va_G} {ad : Nat → Nat} {cA : Nat → ClassId} {mem : Nat → Int32} {rs : Int32} {a : Int32} : yMi l yX2_load cX2_load 2 .int (rmF 1 21) D ad cA mem rs [.ref (ad 0), .int a] (yPost (sp_load mem rs a)) := by
  rcases pk_ix a (n := 256) (by decide) with q | q | ⟨j, hj, rfl⟩
  · exact my_load_bad (Or.inl q)
  · exact my_load_bad (Or.inr q)
  · exact my_load_good hj
set_option maxHeartbeats 4000000 in
theorem my_store_bad {l : Launch} {D : va_G} {ad : Nat → Nat} {cA : Nat → ClassId} {mem : Nat → Int32} {rs : Int32} {a v : Int32} (hbad : spBad a 256) : yMi l yX2_store cX2_store 3 .int (rmF 1 22) D ad cA mem rs [.ref (ad 0), .int a, .int v] (yPost (sp_store mem rs a v)) := by
  rw [sp_store_bad hbad]
  refine yMi_of rfl (by decide) (Nat.le_of_ble_eq_true rfl) (fun _ _ _ _ => rfl) ?_
  intro p e s m args below meth c Q A H0 ls C I hl ret
  have hx := C.1.1
  have hb := C.1.2.1
  have hl : lv_has ls 3 [(0, .ref (ad 0)), (1, .int a), (2, .int v)] := hl
  refine lv_aload_n hx hb dX2_store_0 rfl (hc_g hl rfl) ?_
  refine lv_iload_n hx hb dX2_store_1 rfl (hc_g hl rfl) ?_
  refine y_callr [.int a] (rest := []) C I hl.1 (my_isWord_bad hbad) (yw_isWord C.1.2.2.2.2 rfl rfl ⟨by decide, by decide⟩) rfl rfl (Nat.le_of_ble_eq_true rfl) dX2_store_2 (fun r_1 H locs hr_1 I => ?_)
  subst hr_1
  refine lv_if_ne (tgt := 10) hx hb dX2_store_5 (by decide) (fun c1 => ?_) (fun c1 => ?_)
  · exact absurd rfl c1
  · refine lv_iconst (v := -1) hx hb dX2_store_8 (by decide) ?_
    exact ret _ _ _ _ _ _ _ (⟨rfl, rfl, rfl⟩) I dX2_store_9
set_option maxHeartbeats 4000000 in
theorem my_store_good {l : Launch} {D : va_G} {ad : Nat → Nat} {cA : Nat → ClassId} {mem : Nat → Int32} {rs : Int32} {v : Int32} {j : Nat} (hj : j < 256) : yMi l yX2_store cX2_store 3 .int (rmF 1 22) D ad cA mem rs [.ref (ad 0), .int (nI j), .int v] (yPost (sp_store mem rs (nI j) v)) := by
  rw [sp_store_good hj]
  refine yMi_of rfl (by decide) (Nat.le_of_ble_eq_true rfl) (fun _ _ _ _ => rfl) ?_
  intro p e s m args below meth c Q A H0 ls C I hl ret
  have hx := C.1.1
  have hb := C.1.2.1
  have hl : lv_has ls 3 [(0, .ref (ad 0)), (1, .int (nI j)), (2, .int v)] := hl
  refine lv_aload_n hx hb dX2_store_0 rfl (hc_g hl rfl) ?_
  refine lv_iload_n hx hb dX2_store_1 rfl (hc_g hl rfl) ?_
  refine y_callr [.int (nI j)] (rest := []) C I hl.1 (my_isWord_good hj) (yw_isWord C.1.2.2.2.2 rfl rfl ⟨by decide, by decide⟩) rfl rfl (Nat.le_of_ble_eq_true rfl) dX2_store_2 (fun r_1 H locs hr_1 I => ?_)
  subst hr_1
  refine lv_if_ne (tgt := 10) hx hb dX2_store_5 (by decide) (fun c1 => ?_) (fun c1 => ?_)
  · refine lv_aload_n hx hb dX2_store_10 rfl (hc_g hl rfl) ?_
    refine lv_iload_n hx hb dX2_store_11 rfl (hc_g hl rfl) ?_
    refine lv_iload_n hx hb dX2_store_12 rfl (hc_g hl rfl) ?_
    refine y_callv [.int (nI j), .int v] (rest := []) C I hl.1 (my_write hj) (yw_write C.1.2.2.2.2 rfl rfl ⟨by decide, by decide⟩) rfl rfl (Nat.le_of_ble_eq_true rfl) dX2_store_13 (fun mem_1 rs_1 H locs hp I => ?_)
    obtain ⟨rfl, rfl⟩ := hp
    refine lv_iconst (v := 0) hx hb dX2_store_16 (by decide) ?_
    exact ret _ _ _ _ _ _ _ (⟨rfl, rfl, rfl⟩) I dX2_store_17
  · exact absurd c1 (by decide)
theorem my_store {l : Launch} {D : va_G} {ad : Nat → Nat} {cA : Nat → ClassId} {mem : Nat → Int32} {rs : Int32} {a v : Int32} : yMi l yX2_store cX2_store 3 .int (rmF 1 22) D ad cA mem rs [.ref (ad 0), .int a, .int v] (yPost (sp_store mem rs a v)) := by
  rcases pk_ix a (n := 256) (by decide) with q | q | ⟨j, hj, rfl⟩
  · exact my_store_bad (Or.inl q)
  · exact my_store_bad (Or.inr q)
  · exact my_store_good hj
set_option maxHeartbeats 4000000 in
theorem my_loadByte_bad {l : Launch} {D : va_G} {ad : Nat → Nat} {cA : Nat → ClassId} {mem : Nat → Int32} {rs : Int32} {a sg : Int32} (hbad : spBad a 1024) : yMi l yX2_loadByte cX2_loadByte 4 .int (rmF 1 21) D ad cA mem rs [.ref (ad 0), .int a, .int sg] (yPost (sp_loadByte mem rs a sg)) := by
  rw [sp_loadByte_bad hbad]
  refine yMi_of rfl (by decide) (Nat.le_of_ble_eq_true rfl) (fun _ _ _ _ => rfl) ?_
  intro p e s m args below meth c Q A H0 ls C I hl ret
  have hx := C.1.1
  have hb := C.1.2.1
  have hl : lv_has ls 4 [(0, .ref (ad 0)), (1, .int a), (2, .int sg)] := hl
  refine lv_aload_n hx hb dX2_loadByte_0 rfl (hc_g hl rfl) ?_
  refine lv_iload_n hx hb dX2_loadByte_1 rfl (hc_g hl rfl) ?_
  refine y_callr [.int a] (rest := []) C I hl.1 (my_isByte_bad hbad) (yw_isByte C.1.2.2.2.2 rfl rfl ⟨by decide, by decide⟩) rfl rfl (Nat.le_of_ble_eq_true rfl) dX2_loadByte_2 (fun r_1 H locs hr_1 I => ?_)
  subst hr_1
  refine lv_if_ne (tgt := 10) hx hb dX2_loadByte_5 (by decide) (fun c1 => ?_) (fun c1 => ?_)
  · exact absurd rfl c1
  · refine lv_iconst (v := -1) hx hb dX2_loadByte_8 (by decide) ?_
    exact ret _ _ _ _ _ _ _ (⟨rfl, rfl, rfl⟩) I dX2_loadByte_9
set_option maxHeartbeats 4000000 in
theorem my_loadByte_good {l : Launch} {D : va_G} {ad : Nat → Nat} {cA : Nat → ClassId} {mem : Nat → Int32} {rs : Int32} {sg : Int32} {j : Nat} (hj : j < 1024) : yMi l yX2_loadByte cX2_loadByte 4 .int (rmF 1 21) D ad cA mem rs [.ref (ad 0), .int (nI j), .int sg] (yPost (sp_loadByte mem rs (nI j) sg)) := by
  rw [sp_loadByte_good hj]
  refine yMi_of rfl (by decide) (Nat.le_of_ble_eq_true rfl) (fun _ _ _ _ => rfl) ?_
  intro p e s m args below meth c Q A H0 ls C I hl ret
  have hx := C.1.1
  have hb := C.1.2.1
  have hl : lv_has ls 4 [(0, .ref (ad 0)), (1, .int (nI j)), (2, .int sg)] := hl
  refine lv_aload_n hx hb dX2_loadByte_0 rfl (hc_g hl rfl) ?_
  refine lv_iload_n hx hb dX2_loadByte_1 rfl (hc_g hl rfl) ?_
  refine y_callr [.int (nI j)] (rest := []) C I hl.1 (my_isByte_good hj) (yw_isByte C.1.2.2.2.2 rfl rfl ⟨by decide, by decide⟩) rfl rfl (Nat.le_of_ble_eq_true rfl) dX2_loadByte_2 (fun r_1 H locs hr_1 I => ?_)
  subst hr_1
  refine lv_if_ne (tgt := 10) hx hb dX2_loadByte_5 (by decide) (fun c1 => ?_) (fun c1 => ?_)
  · refine lv_aload_n hx hb dX2_loadByte_10 rfl (hc_g hl rfl) ?_
    refine yg_mem C I dX2_loadByte_11 ?_
    refine lv_iload_n hx hb dX2_loadByte_14 rfl (hc_g hl rfl) ?_
    refine lv_iconst (v := nI 4) hx hb dX2_loadByte_15 (by decide) ?_
    refine lv_idiv hx hb dX2_loadByte_16 (by decide) ?_
    refine hc_re (nI (j / 4)) (pk_div (by omega) (by decide) (by decide)) ?_
    refine yl_mem C I (by omega) dX2_loadByte_17 ?_
    refine lv_iload_n hx hb dX2_loadByte_18 rfl (hc_g hl rfl) ?_
    refine lv_iconst (v := nI 4) hx hb dX2_loadByte_19 (by decide) ?_
    refine lv_irem hx hb dX2_loadByte_20 (by decide) ?_
    refine hc_re (nI (j % 4)) (pk_rem (by omega) (by decide) (by decide)) ?_
    refine lv_bipush (v := nI 8) hx hb dX2_loadByte_21 (by decide) ?_
    refine hc_mulN hx hb dX2_loadByte_23 ?_
    refine hc_re (nI (8 * (j % 4))) (congrArg nI (Nat.mul_comm _ _)) ?_
    refine lv_ishr hx hb dX2_loadByte_24 ?_
    refine lv_sipush (v := nI 255) hx hb dX2_loadByte_25 (by decide) ?_
    refine lv_iand hx hb dX2_loadByte_28 ?_
    refine hc_re (sp_b (mem (j / 4)) j) (rfl) ?_
    refine lv_istore_n (lv' := [(3, .int (sp_b (mem (j / 4)) j)), (0, .ref (ad 0)), (1, .int (nI j)), (2, .int sg)]) hx hb dX2_loadByte_29 rfl hl (by decide) rfl (fun ls hl => ?_)
    refine lv_iload_n hx hb dX2_loadByte_30 rfl (hc_g hl rfl) ?_
    refine lv_if_eq (tgt := 48) hx hb dX2_loadByte_31 (by decide) (fun c3 => ?_) (fun c3 => ?_)
    · refine lv_iload_n hx hb dX2_loadByte_48 rfl (hc_g hl rfl) ?_
      exact ret _ _ _ _ _ _ _ (⟨(sp_byte_0 c3).symm, rfl, rfl⟩) I dX2_loadByte_49
    · refine lv_iload_n hx hb dX2_loadByte_34 rfl (hc_g hl rfl) ?_
      refine lv_bipush (v := nI 127) hx hb dX2_loadByte_35 (by decide) ?_
      refine lv_icmp_le (tgt := 48) hx hb dX2_loadByte_37 (by decide) (fun c4 => ?_) (fun c4 => ?_)
      · refine lv_iload_n hx hb dX2_loadByte_48 rfl (hc_g hl rfl) ?_
        exact ret _ _ _ _ _ _ _ (⟨(sp_byte_lo c4).symm, rfl, rfl⟩) I dX2_loadByte_49
      · refine lv_iload_n hx hb dX2_loadByte_40 rfl (hc_g hl rfl) ?_
        refine lv_sipush (v := nI 256) hx hb dX2_loadByte_41 (by decide) ?_
        refine lv_isub hx hb dX2_loadByte_44 ?_
        refine lv_goto (tgt := 49) hx hb dX2_loadByte_45 (by decide) ?_
        exact ret _ _ _ _ _ _ _ (⟨(sp_byte_hi c3 c4).symm, rfl, rfl⟩) I dX2_loadByte_49
  · exact absurd c1 (by decide)
theorem my_loadByte {l : Launch} {D : va_G} {ad : Nat → Nat} {cA : Nat → ClassId} {mem : Nat → Int32} {rs : Int32} {a sg : Int32} : yMi l yX2_loadByte cX2_loadByte 4 .int (rmF 1 21) D ad cA mem rs [.ref (ad 0), .int a, .int sg] (yPost (sp_loadByte mem rs a sg)) := by
  rcases pk_ix a (n := 1024) (by decide) with q | q | ⟨j, hj, rfl⟩
  · exact my_loadByte_bad (Or.inl q)
  · exact my_loadByte_bad (Or.inr q)
  · exact my_loadByte_good hj
set_option maxHeartbeats 4000000 in
theorem my_storeByte_bad {l : Launch} {D : va_G} {ad : Nat → Nat} {cA : Nat → ClassId} {mem : Nat → Int32} {rs : Int32} {a v : Int32} (hbad : spBad a 1024) : yMi l yX2_storeByte cX2_storeByte 5 .int (rmF 1 22) D ad cA mem rs [.ref (ad 0), .int a, .int v] (yPost (sp_storeByte mem rs a v)) := by
  rw [sp_storeByte_bad hbad]
  refine yMi_of rfl (by decide) (Nat.le_of_ble_eq_true rfl) (fun _ _ _ _ => rfl) ?_
  intro p e s m args below meth c Q A H0 ls C I hl ret
  have hx := C.1.1
  have hb := C.1.2.1
  have hl : lv_has ls 5 [(0, .ref (ad 0)), (1, .int a), (2, .int v)] := hl
  refine lv_aload_n hx hb dX2_storeByte_0 rfl (hc_g hl rfl) ?_
  refine lv_iload_n hx hb dX2_storeByte_1 rfl (hc_g hl rfl) ?_
  refine y_callr [.int a] (rest := []) C I hl.1 (my_isByte_bad hbad) (yw_isByte C.1.2.2.2.2 rfl rfl ⟨by decide, by decide⟩) rfl rfl (Nat.le_of_ble_eq_true rfl) dX2_storeByte_2 (fun r_1 H locs hr_1 I => ?_)
  subst hr_1
  refine lv_if_ne (tgt := 10) hx hb dX2_storeByte_5 (by decide) (fun c1 => ?_) (fun c1 => ?_)
  · exact absurd rfl c1
  · refine lv_iconst (v := -1) hx hb dX2_storeByte_8 (by decide) ?_
    exact ret _ _ _ _ _ _ _ (⟨rfl, rfl, rfl⟩) I dX2_storeByte_9
set_option maxHeartbeats 4000000 in
theorem my_storeByte_good {l : Launch} {D : va_G} {ad : Nat → Nat} {cA : Nat → ClassId} {mem : Nat → Int32} {rs : Int32} {v : Int32} {j : Nat} (hj : j < 1024) : yMi l yX2_storeByte cX2_storeByte 5 .int (rmF 1 22) D ad cA mem rs [.ref (ad 0), .int (nI j), .int v] (yPost (sp_storeByte mem rs (nI j) v)) := by
  rw [sp_storeByte_good hj]
  refine yMi_of rfl (by decide) (Nat.le_of_ble_eq_true rfl) (fun _ _ _ _ => rfl) ?_
  intro p e s m args below meth c Q A H0 ls C I hl ret
  have hx := C.1.1
  have hb := C.1.2.1
  have hl : lv_has ls 5 [(0, .ref (ad 0)), (1, .int (nI j)), (2, .int v)] := hl
  refine lv_aload_n hx hb dX2_storeByte_0 rfl (hc_g hl rfl) ?_
  refine lv_iload_n hx hb dX2_storeByte_1 rfl (hc_g hl rfl) ?_
  refine y_callr [.int (nI j)] (rest := []) C I hl.1 (my_isByte_good hj) (yw_isByte C.1.2.2.2.2 rfl rfl ⟨by decide, by decide⟩) rfl rfl (Nat.le_of_ble_eq_true rfl) dX2_storeByte_2 (fun r_1 H locs hr_1 I => ?_)
  subst hr_1
  refine lv_if_ne (tgt := 10) hx hb dX2_storeByte_5 (by decide) (fun c1 => ?_) (fun c1 => ?_)
  · refine lv_iload_n hx hb dX2_storeByte_10 rfl (hc_g hl rfl) ?_
    refine lv_iconst (v := nI 4) hx hb dX2_storeByte_11 (by decide) ?_
    refine lv_irem hx hb dX2_storeByte_12 (by decide) ?_
    refine hc_re (nI (j % 4)) (pk_rem (by omega) (by decide) (by decide)) ?_
    refine lv_bipush (v := nI 8) hx hb dX2_storeByte_13 (by decide) ?_
    refine hc_mulN hx hb dX2_storeByte_15 ?_
    refine hc_re (nI (8 * (j % 4))) (congrArg nI (Nat.mul_comm _ _)) ?_
    refine lv_istore_n (lv' := [(3, .int (nI (8 * (j % 4)))), (0, .ref (ad 0)), (1, .int (nI j)), (2, .int v)]) hx hb dX2_storeByte_16 rfl hl (by decide) rfl (fun ls hl => ?_)
    refine lv_aload_n hx hb dX2_storeByte_17 rfl (hc_g hl rfl) ?_
    refine yg_mem C I dX2_storeByte_18 ?_
    refine lv_iload_n hx hb dX2_storeByte_21 rfl (hc_g hl rfl) ?_
    refine lv_iconst (v := nI 4) hx hb dX2_storeByte_22 (by decide) ?_
    refine lv_idiv hx hb dX2_storeByte_23 (by decide) ?_
    refine hc_re (nI (j / 4)) (pk_div (by omega) (by decide) (by decide)) ?_
    refine yl_mem C I (by omega) dX2_storeByte_24 ?_
    refine lv_sipush (v := nI 255) hx hb dX2_storeByte_25 (by decide) ?_
    refine lv_iload_n hx hb dX2_storeByte_28 rfl (hc_g hl rfl) ?_
    refine lv_ishl hx hb dX2_storeByte_29 ?_
    refine lv_iconst (v := -1) hx hb dX2_storeByte_30 (by decide) ?_
    refine lv_ixor hx hb dX2_storeByte_31 ?_
    refine lv_iand hx hb dX2_storeByte_32 ?_
    refine lv_istore (lv' := [(4, .int ((mem (j / 4)) &&& (((nI 255) <<< ((nI (8 * (j % 4))) &&& 31)) ^^^ (-1)))), (3, .int (nI (8 * (j % 4)))), (0, .ref (ad 0)), (1, .int (nI j)), (2, .int v)]) hx hb dX2_storeByte_33 hl (by decide) rfl (fun ls hl => ?_)
    refine lv_aload_n hx hb dX2_storeByte_35 rfl (hc_g hl rfl) ?_
    refine lv_iload_n hx hb dX2_storeByte_36 rfl (hc_g hl rfl) ?_
    refine lv_iconst (v := nI 4) hx hb dX2_storeByte_37 (by decide) ?_
    refine lv_idiv hx hb dX2_storeByte_38 (by decide) ?_
    refine hc_re (nI (j / 4)) (pk_div (by omega) (by decide) (by decide)) ?_
    refine lv_iload hx hb dX2_storeByte_39 (hc_g hl rfl) ?_
    refine lv_iload_n hx hb dX2_storeByte_41 rfl (hc_g hl rfl) ?_
    refine lv_sipush (v := nI 255) hx hb dX2_storeByte_42 (by decide) ?_
    refine lv_iand hx hb dX2_storeByte_45 ?_
    refine lv_iload_n hx hb dX2_storeByte_46 rfl (hc_g hl rfl) ?_
    refine lv_ishl hx hb dX2_storeByte_47 ?_
    refine lv_ior hx hb dX2_storeByte_48 ?_
    refine hc_re (sp_w (mem (j / 4)) j v) (rfl) ?_
    refine y_callv [.int (nI (j / 4)), .int (sp_w (mem (j / 4)) j v)] (rest := []) C I hl.1 (my_write (by omega)) (yw_write C.1.2.2.2.2 rfl rfl ⟨by decide, by decide⟩) rfl rfl (Nat.le_of_ble_eq_true rfl) dX2_storeByte_49 (fun mem_1 rs_1 H locs hp I => ?_)
    obtain ⟨rfl, rfl⟩ := hp
    refine lv_iconst (v := 0) hx hb dX2_storeByte_52 (by decide) ?_
    exact ret _ _ _ _ _ _ _ (⟨rfl, rfl, rfl⟩) I dX2_storeByte_53
  · exact absurd c1 (by decide)
theorem my_storeByte {l : Launch} {D : va_G} {ad : Nat → Nat} {cA : Nat → ClassId} {mem : Nat → Int32} {rs : Int32} {a v : Int32} : yMi l yX2_storeByte cX2_storeByte 5 .int (rmF 1 22) D ad cA mem rs [.ref (ad 0), .int a, .int v] (yPost (sp_storeByte mem rs a v)) := by
  rcases pk_ix a (n := 1024) (by decide) with q | q | ⟨j, hj, rfl⟩
  · exact my_storeByte_bad (Or.inl q)
  · exact my_storeByte_bad (Or.inr q)
  · exact my_storeByte_good hj
set_option maxHeartbeats 4000000 in
theorem my_swap_bad {l : Launch} {D : va_G} {ad : Nat → Nat} {cA : Nat → ClassId} {mem : Nat → Int32} {rs : Int32} {a v : Int32} (hbad : spBad a 256) : yMi l yX2_swap cX2_swap 4 .int (rmF 2 44) D ad cA mem rs [.ref (ad 0), .int a, .int v] (yPost (sp_swap mem rs a v)) := by
  rw [sp_swap_bad hbad]
  refine yMi_of rfl (by decide) (Nat.le_of_ble_eq_true rfl) (fun _ _ _ _ => rfl) ?_
  intro p e s m args below meth c Q A H0 ls C I hl ret
  have hx := C.1.1
  have hb := C.1.2.1
  have hl : lv_has ls 4 [(0, .ref (ad 0)), (1, .int a), (2, .int v)] := hl
  refine lv_aload_n hx hb dX2_swap_0 rfl (hc_g hl rfl) ?_
  refine lv_iload_n hx hb dX2_swap_1 rfl (hc_g hl rfl) ?_
  refine y_callT [.int a] (rest := []) (-1) mem rs (sp_load_bad hbad) C I hl.1 (my_load) (yw_load C.1.2.2.2.2 rfl rfl ⟨by decide, by decide⟩) rfl rfl (Nat.le_of_ble_eq_true rfl) dX2_swap_2 (fun H locs I => ?_)
  refine lv_istore_n (lv' := [(3, .int (-1)), (0, .ref (ad 0)), (1, .int a), (2, .int v)]) hx hb dX2_swap_5 rfl hl (by decide) rfl (fun ls hl => ?_)
  refine lv_aload_n hx hb dX2_swap_6 rfl (hc_g hl rfl) ?_
  refine lv_iload_n hx hb dX2_swap_7 rfl (hc_g hl rfl) ?_
  refine lv_iload_n hx hb dX2_swap_8 rfl (hc_g hl rfl) ?_
  refine y_callT [.int a, .int v] (rest := []) (-1) mem rs (sp_store_bad hbad) C I hl.1 (my_store) (yw_store C.1.2.2.2.2 rfl rfl ⟨by decide, by decide⟩) rfl rfl (Nat.le_of_ble_eq_true rfl) dX2_swap_9 (fun H locs I => ?_)
  refine lv_pop hx hb dX2_swap_12 rfl ?_
  refine lv_iload_n hx hb dX2_swap_13 rfl (hc_g hl rfl) ?_
  exact ret _ _ _ _ _ _ _ (⟨rfl, rfl, rfl⟩) I dX2_swap_14
set_option maxHeartbeats 4000000 in
theorem my_swap_good {l : Launch} {D : va_G} {ad : Nat → Nat} {cA : Nat → ClassId} {mem : Nat → Int32} {rs : Int32} {v : Int32} {j : Nat} (hj : j < 256) : yMi l yX2_swap cX2_swap 4 .int (rmF 2 44) D ad cA mem rs [.ref (ad 0), .int (nI j), .int v] (yPost (sp_swap mem rs (nI j) v)) := by
  rw [sp_swap_good hj]
  refine yMi_of rfl (by decide) (Nat.le_of_ble_eq_true rfl) (fun _ _ _ _ => rfl) ?_
  intro p e s m args below meth c Q A H0 ls C I hl ret
  have hx := C.1.1
  have hb := C.1.2.1
  have hl : lv_has ls 4 [(0, .ref (ad 0)), (1, .int (nI j)), (2, .int v)] := hl
  refine lv_aload_n hx hb dX2_swap_0 rfl (hc_g hl rfl) ?_
  refine lv_iload_n hx hb dX2_swap_1 rfl (hc_g hl rfl) ?_
  refine y_callT [.int (nI j)] (rest := []) (mem j) mem rs (sp_load_good hj) C I hl.1 (my_load) (yw_load C.1.2.2.2.2 rfl rfl ⟨by decide, by decide⟩) rfl rfl (Nat.le_of_ble_eq_true rfl) dX2_swap_2 (fun H locs I => ?_)
  refine lv_istore_n (lv' := [(3, .int (mem j)), (0, .ref (ad 0)), (1, .int (nI j)), (2, .int v)]) hx hb dX2_swap_5 rfl hl (by decide) rfl (fun ls hl => ?_)
  refine lv_aload_n hx hb dX2_swap_6 rfl (hc_g hl rfl) ?_
  refine lv_iload_n hx hb dX2_swap_7 rfl (hc_g hl rfl) ?_
  refine lv_iload_n hx hb dX2_swap_8 rfl (hc_g hl rfl) ?_
  refine y_callT [.int (nI j), .int v] (rest := []) 0 (upd mem j v) (sp_kill rs (nI j)) (sp_store_good hj) C I hl.1 (my_store) (yw_store C.1.2.2.2.2 rfl rfl ⟨by decide, by decide⟩) rfl rfl (Nat.le_of_ble_eq_true rfl) dX2_swap_9 (fun H locs I => ?_)
  refine lv_pop hx hb dX2_swap_12 rfl ?_
  refine lv_iload_n hx hb dX2_swap_13 rfl (hc_g hl rfl) ?_
  exact ret _ _ _ _ _ _ _ (⟨rfl, rfl, rfl⟩) I dX2_swap_14
theorem my_swap {l : Launch} {D : va_G} {ad : Nat → Nat} {cA : Nat → ClassId} {mem : Nat → Int32} {rs : Int32} {a v : Int32} : yMi l yX2_swap cX2_swap 4 .int (rmF 2 44) D ad cA mem rs [.ref (ad 0), .int a, .int v] (yPost (sp_swap mem rs a v)) := by
  rcases pk_ix a (n := 256) (by decide) with q | q | ⟨j, hj, rfl⟩
  · exact my_swap_bad (Or.inl q)
  · exact my_swap_bad (Or.inr q)
  · exact my_swap_good hj
set_option maxHeartbeats 4000000 in
theorem my_addTo_bad {l : Launch} {D : va_G} {ad : Nat → Nat} {cA : Nat → ClassId} {mem : Nat → Int32} {rs : Int32} {a v : Int32} (hbad : spBad a 256) : yMi l yX2_addTo cX2_addTo 3 .int (rmF 1 22) D ad cA mem rs [.ref (ad 0), .int a, .int v] (yPost (sp_addTo mem rs a v)) := by
  rw [sp_addTo_bad hbad]
  refine yMi_of rfl (by decide) (Nat.le_of_ble_eq_true rfl) (fun _ _ _ _ => rfl) ?_
  intro p e s m args below meth c Q A H0 ls C I hl ret
  have hx := C.1.1
  have hb := C.1.2.1
  have hl : lv_has ls 3 [(0, .ref (ad 0)), (1, .int a), (2, .int v)] := hl
  refine lv_aload_n hx hb dX2_addTo_0 rfl (hc_g hl rfl) ?_
  refine lv_iload_n hx hb dX2_addTo_1 rfl (hc_g hl rfl) ?_
  refine y_callr [.int a] (rest := []) C I hl.1 (my_isWord_bad hbad) (yw_isWord C.1.2.2.2.2 rfl rfl ⟨by decide, by decide⟩) rfl rfl (Nat.le_of_ble_eq_true rfl) dX2_addTo_2 (fun r_1 H locs hr_1 I => ?_)
  subst hr_1
  refine lv_if_ne (tgt := 10) hx hb dX2_addTo_5 (by decide) (fun c1 => ?_) (fun c1 => ?_)
  · exact absurd rfl c1
  · refine lv_iconst (v := -1) hx hb dX2_addTo_8 (by decide) ?_
    exact ret _ _ _ _ _ _ _ (⟨rfl, rfl, rfl⟩) I dX2_addTo_9
set_option maxHeartbeats 4000000 in
theorem my_addTo_good {l : Launch} {D : va_G} {ad : Nat → Nat} {cA : Nat → ClassId} {mem : Nat → Int32} {rs : Int32} {v : Int32} {j : Nat} (hj : j < 256) : yMi l yX2_addTo cX2_addTo 3 .int (rmF 1 22) D ad cA mem rs [.ref (ad 0), .int (nI j), .int v] (yPost (sp_addTo mem rs (nI j) v)) := by
  rw [sp_addTo_good hj]
  refine yMi_of rfl (by decide) (Nat.le_of_ble_eq_true rfl) (fun _ _ _ _ => rfl) ?_
  intro p e s m args below meth c Q A H0 ls C I hl ret
  have hx := C.1.1
  have hb := C.1.2.1
  have hl : lv_has ls 3 [(0, .ref (ad 0)), (1, .int (nI j)), (2, .int v)] := hl
  refine lv_aload_n hx hb dX2_addTo_0 rfl (hc_g hl rfl) ?_
  refine lv_iload_n hx hb dX2_addTo_1 rfl (hc_g hl rfl) ?_
  refine y_callr [.int (nI j)] (rest := []) C I hl.1 (my_isWord_good hj) (yw_isWord C.1.2.2.2.2 rfl rfl ⟨by decide, by decide⟩) rfl rfl (Nat.le_of_ble_eq_true rfl) dX2_addTo_2 (fun r_1 H locs hr_1 I => ?_)
  subst hr_1
  refine lv_if_ne (tgt := 10) hx hb dX2_addTo_5 (by decide) (fun c1 => ?_) (fun c1 => ?_)
  · refine lv_aload_n hx hb dX2_addTo_10 rfl (hc_g hl rfl) ?_
    refine lv_iload_n hx hb dX2_addTo_11 rfl (hc_g hl rfl) ?_
    refine lv_aload_n hx hb dX2_addTo_12 rfl (hc_g hl rfl) ?_
    refine yg_mem C I dX2_addTo_13 ?_
    refine lv_iload_n hx hb dX2_addTo_16 rfl (hc_g hl rfl) ?_
    refine yl_mem C I (by omega) dX2_addTo_17 ?_
    refine lv_iload_n hx hb dX2_addTo_18 rfl (hc_g hl rfl) ?_
    refine lv_iadd hx hb dX2_addTo_19 ?_
    refine y_callv [.int (nI j), .int ((mem j) + v)] (rest := []) C I hl.1 (my_write hj) (yw_write C.1.2.2.2.2 rfl rfl ⟨by decide, by decide⟩) rfl rfl (Nat.le_of_ble_eq_true rfl) dX2_addTo_20 (fun mem_1 rs_1 H locs hp I => ?_)
    obtain ⟨rfl, rfl⟩ := hp
    refine lv_aload_n hx hb dX2_addTo_23 rfl (hc_g hl rfl) ?_
    refine yg_mem C I dX2_addTo_24 ?_
    refine lv_iload_n hx hb dX2_addTo_27 rfl (hc_g hl rfl) ?_
    refine yl_mem C I (by omega) dX2_addTo_28 ?_
    refine hc_re (mem j + v) (hu_s) ?_
    exact ret _ _ _ _ _ _ _ (⟨rfl, rfl, rfl⟩) I dX2_addTo_29
  · exact absurd c1 (by decide)
theorem my_addTo {l : Launch} {D : va_G} {ad : Nat → Nat} {cA : Nat → ClassId} {mem : Nat → Int32} {rs : Int32} {a v : Int32} : yMi l yX2_addTo cX2_addTo 3 .int (rmF 1 22) D ad cA mem rs [.ref (ad 0), .int a, .int v] (yPost (sp_addTo mem rs a v)) := by
  rcases pk_ix a (n := 256) (by decide) with q | q | ⟨j, hj, rfl⟩
  · exact my_addTo_bad (Or.inl q)
  · exact my_addTo_bad (Or.inr q)
  · exact my_addTo_good hj
set_option maxHeartbeats 4000000 in
theorem my_loadReserved_bad {l : Launch} {D : va_G} {ad : Nat → Nat} {cA : Nat → ClassId} {mem : Nat → Int32} {rs : Int32} {a : Int32} (hbad : spBad a 256) : yMi l yX2_loadReserved cX2_loadReserved 2 .int (rmF 2 42) D ad cA mem rs [.ref (ad 0), .int a] (yPost (sp_loadReserved mem rs a)) := by
  rw [sp_loadReserved_bad hbad]
  refine yMi_of rfl (by decide) (Nat.le_of_ble_eq_true rfl) (fun _ _ _ _ => rfl) ?_
  intro p e s m args below meth c Q A H0 ls C I hl ret
  have hx := C.1.1
  have hb := C.1.2.1
  have hl : lv_has ls 2 [(0, .ref (ad 0)), (1, .int a)] := hl
  refine lv_aload_n hx hb dX2_loadReserved_0 rfl (hc_g hl rfl) ?_
  refine lv_iload_n hx hb dX2_loadReserved_1 rfl (hc_g hl rfl) ?_
  refine y_callr [.int a] (rest := []) C I hl.1 (my_isWord_bad hbad) (yw_isWord C.1.2.2.2.2 rfl rfl ⟨by decide, by decide⟩) rfl rfl (Nat.le_of_ble_eq_true rfl) dX2_loadReserved_2 (fun r_1 H locs hr_1 I => ?_)
  subst hr_1
  refine lv_if_eq (tgt := 13) hx hb dX2_loadReserved_5 (by decide) (fun c1 => ?_) (fun c1 => ?_)
  · refine lv_aload_n hx hb dX2_loadReserved_13 rfl (hc_g hl rfl) ?_
    refine lv_iload_n hx hb dX2_loadReserved_14 rfl (hc_g hl rfl) ?_
    refine y_callT [.int a] (rest := []) (-1) mem rs (sp_load_bad hbad) C I hl.1 (my_load) (yw_load C.1.2.2.2.2 rfl rfl ⟨by decide, by decide⟩) rfl rfl (Nat.le_of_ble_eq_true rfl) dX2_loadReserved_15 (fun H locs I => ?_)
    exact ret _ _ _ _ _ _ _ (⟨rfl, rfl, rfl⟩) I dX2_loadReserved_18
  · exact absurd rfl c1
set_option maxHeartbeats 4000000 in
theorem my_loadReserved_good {l : Launch} {D : va_G} {ad : Nat → Nat} {cA : Nat → ClassId} {mem : Nat → Int32} {rs : Int32}  {j : Nat} (hj : j < 256) : yMi l yX2_loadReserved cX2_loadReserved 2 .int (rmF 2 42) D ad cA mem rs [.ref (ad 0), .int (nI j)] (yPost (sp_loadReserved mem rs (nI j))) := by
  rw [sp_loadReserved_good hj]
  refine yMi_of rfl (by decide) (Nat.le_of_ble_eq_true rfl) (fun _ _ _ _ => rfl) ?_
  intro p e s m args below meth c Q A H0 ls C I hl ret
  have hx := C.1.1
  have hb := C.1.2.1
  have hl : lv_has ls 2 [(0, .ref (ad 0)), (1, .int (nI j))] := hl
  refine lv_aload_n hx hb dX2_loadReserved_0 rfl (hc_g hl rfl) ?_
  refine lv_iload_n hx hb dX2_loadReserved_1 rfl (hc_g hl rfl) ?_
  refine y_callr [.int (nI j)] (rest := []) C I hl.1 (my_isWord_good hj) (yw_isWord C.1.2.2.2.2 rfl rfl ⟨by decide, by decide⟩) rfl rfl (Nat.le_of_ble_eq_true rfl) dX2_loadReserved_2 (fun r_1 H locs hr_1 I => ?_)
  subst hr_1
  refine lv_if_eq (tgt := 13) hx hb dX2_loadReserved_5 (by decide) (fun c1 => ?_) (fun c1 => ?_)
  · exact absurd c1 (by decide)
  · refine lv_aload_n hx hb dX2_loadReserved_8 rfl (hc_g hl rfl) ?_
    refine lv_iload_n hx hb dX2_loadReserved_9 rfl (hc_g hl rfl) ?_
    refine yp_rs C I dX2_loadReserved_10 (fun H locs I => ?_)
    refine lv_aload_n hx hb dX2_loadReserved_13 rfl (hc_g hl rfl) ?_
    refine lv_iload_n hx hb dX2_loadReserved_14 rfl (hc_g hl rfl) ?_
    refine y_callT [.int (nI j)] (rest := []) (mem j) mem (nI j) (sp_load_good hj) C I hl.1 (my_load) (yw_load C.1.2.2.2.2 rfl rfl ⟨by decide, by decide⟩) rfl rfl (Nat.le_of_ble_eq_true rfl) dX2_loadReserved_15 (fun H locs I => ?_)
    exact ret _ _ _ _ _ _ _ (⟨rfl, rfl, rfl⟩) I dX2_loadReserved_18
theorem my_loadReserved {l : Launch} {D : va_G} {ad : Nat → Nat} {cA : Nat → ClassId} {mem : Nat → Int32} {rs : Int32} {a : Int32} : yMi l yX2_loadReserved cX2_loadReserved 2 .int (rmF 2 42) D ad cA mem rs [.ref (ad 0), .int a] (yPost (sp_loadReserved mem rs a)) := by
  rcases pk_ix a (n := 256) (by decide) with q | q | ⟨j, hj, rfl⟩
  · exact my_loadReserved_bad (Or.inl q)
  · exact my_loadReserved_bad (Or.inr q)
  · exact my_loadReserved_good hj
set_option maxHeartbeats 4000000 in
theorem my_storeConditional_bad {l : Launch} {D : va_G} {ad : Nat → Nat} {cA : Nat → ClassId} {mem : Nat → Int32} {rs : Int32} {a v : Int32} (hbad : spBad a 256) : yMi l yX2_storeConditional cX2_storeConditional 4 .int (rmF 1 22) D ad cA mem rs [.ref (ad 0), .int a, .int v] (yPost (sp_storeConditional mem rs a v)) := by
  rw [sp_storeConditional_bad hbad]
  refine yMi_of rfl (by decide) (Nat.le_of_ble_eq_true rfl) (fun _ _ _ _ => rfl) ?_
  intro p e s m args below meth c Q A H0 ls C I hl ret
  have hx := C.1.1
  have hb := C.1.2.1
  have hl : lv_has ls 4 [(0, .ref (ad 0)), (1, .int a), (2, .int v)] := hl
  refine lv_aload_n hx hb dX2_storeConditional_0 rfl (hc_g hl rfl) ?_
  refine lv_iload_n hx hb dX2_storeConditional_1 rfl (hc_g hl rfl) ?_
  refine y_callr [.int a] (rest := []) C I hl.1 (my_isWord_bad hbad) (yw_isWord C.1.2.2.2.2 rfl rfl ⟨by decide, by decide⟩) rfl rfl (Nat.le_of_ble_eq_true rfl) dX2_storeConditional_2 (fun r_1 H locs hr_1 I => ?_)
  subst hr_1
  refine lv_if_ne (tgt := 10) hx hb dX2_storeConditional_5 (by decide) (fun c1 => ?_) (fun c1 => ?_)
  · exact absurd rfl c1
  · refine lv_iconst (v := -1) hx hb dX2_storeConditional_8 (by decide) ?_
    exact ret _ _ _ _ _ _ _ (⟨rfl, rfl, rfl⟩) I dX2_storeConditional_9
set_option maxHeartbeats 4000000 in
theorem my_storeConditional_good {l : Launch} {D : va_G} {ad : Nat → Nat} {cA : Nat → ClassId} {mem : Nat → Int32} {rs : Int32} {v : Int32} {j : Nat} (hj : j < 256) : yMi l yX2_storeConditional cX2_storeConditional 4 .int (rmF 1 22) D ad cA mem rs [.ref (ad 0), .int (nI j), .int v] (yPost (sp_storeConditional mem rs (nI j) v)) := by
  refine yMi_of rfl (by decide) (Nat.le_of_ble_eq_true rfl) (fun _ _ _ _ => rfl) ?_
  intro p e s m args below meth c Q A H0 ls C I hl ret
  have hx := C.1.1
  have hb := C.1.2.1
  have hl : lv_has ls 4 [(0, .ref (ad 0)), (1, .int (nI j)), (2, .int v)] := hl
  refine lv_aload_n hx hb dX2_storeConditional_0 rfl (hc_g hl rfl) ?_
  refine lv_iload_n hx hb dX2_storeConditional_1 rfl (hc_g hl rfl) ?_
  refine y_callr [.int (nI j)] (rest := []) C I hl.1 (my_isWord_good hj) (yw_isWord C.1.2.2.2.2 rfl rfl ⟨by decide, by decide⟩) rfl rfl (Nat.le_of_ble_eq_true rfl) dX2_storeConditional_2 (fun r_1 H locs hr_1 I => ?_)
  subst hr_1
  refine lv_if_ne (tgt := 10) hx hb dX2_storeConditional_5 (by decide) (fun c1 => ?_) (fun c1 => ?_)
  · refine lv_aload_n hx hb dX2_storeConditional_10 rfl (hc_g hl rfl) ?_
    refine yg_rs C I dX2_storeConditional_11 ?_
    refine lv_iload_n hx hb dX2_storeConditional_14 rfl (hc_g hl rfl) ?_
    refine lv_icmp_ne (tgt := 22) hx hb dX2_storeConditional_15 (by decide) (fun c2 => ?_) (fun c2 => ?_)
    · refine lv_iconst (v := nI 0) hx hb dX2_storeConditional_22 (by decide) ?_
      refine lv_istore_n (lv' := [(3, .int (nI 0)), (0, .ref (ad 0)), (1, .int (nI j)), (2, .int v)]) hx hb dX2_storeConditional_23 rfl hl (by decide) rfl (fun ls hl => ?_)
      refine lv_iload_n hx hb dX2_storeConditional_24 rfl (hc_g hl rfl) ?_
      refine lv_if_eq (tgt := 34) hx hb dX2_storeConditional_25 (by decide) (fun c3 => ?_) (fun c3 => ?_)
      · refine lv_aload_n hx hb dX2_storeConditional_34 rfl (hc_g hl rfl) ?_
        refine lv_iconst (v := -1) hx hb dX2_storeConditional_35 (by decide) ?_
        refine yp_rs C I dX2_storeConditional_36 (fun H locs I => ?_)
        refine lv_iload_n hx hb dX2_storeConditional_39 rfl (hc_g hl rfl) ?_
        refine lv_if_eq (tgt := 47) hx hb dX2_storeConditional_40 (by decide) (fun c4 => ?_) (fun c4 => ?_)
        · rw [sp_storeConditional_ne hj c2] at ret
          refine lv_iconst (v := 0) hx hb dX2_storeConditional_47 (by decide) ?_
          exact ret _ _ _ _ _ _ _ (⟨rfl, rfl, rfl⟩) I dX2_storeConditional_48
        · exact absurd nI_0 c4
      · exact absurd nI_0 c3
    · refine lv_iconst (v := nI 1) hx hb dX2_storeConditional_18 (by decide) ?_
      refine lv_goto (tgt := 23) hx hb dX2_storeConditional_19 (by decide) ?_
      refine lv_istore_n (lv' := [(3, .int (nI 1)), (0, .ref (ad 0)), (1, .int (nI j)), (2, .int v)]) hx hb dX2_storeConditional_23 rfl hl (by decide) rfl (fun ls hl => ?_)
      refine lv_iload_n hx hb dX2_storeConditional_24 rfl (hc_g hl rfl) ?_
      refine lv_if_eq (tgt := 34) hx hb dX2_storeConditional_25 (by decide) (fun c3 => ?_) (fun c3 => ?_)
      · exact absurd c3 (by decide)
      · refine lv_aload_n hx hb dX2_storeConditional_28 rfl (hc_g hl rfl) ?_
        refine lv_iload_n hx hb dX2_storeConditional_29 rfl (hc_g hl rfl) ?_
        refine lv_iload_n hx hb dX2_storeConditional_30 rfl (hc_g hl rfl) ?_
        refine y_callv [.int (nI j), .int v] (rest := []) C I hl.1 (my_write hj) (yw_write C.1.2.2.2.2 rfl rfl ⟨by decide, by decide⟩) rfl rfl (Nat.le_of_ble_eq_true rfl) dX2_storeConditional_31 (fun mem_1 rs_1 H locs hp I => ?_)
        obtain ⟨rfl, rfl⟩ := hp
        refine lv_aload_n hx hb dX2_storeConditional_34 rfl (hc_g hl rfl) ?_
        refine lv_iconst (v := -1) hx hb dX2_storeConditional_35 (by decide) ?_
        refine yp_rs C I dX2_storeConditional_36 (fun H locs I => ?_)
        refine lv_iload_n hx hb dX2_storeConditional_39 rfl (hc_g hl rfl) ?_
        refine lv_if_eq (tgt := 47) hx hb dX2_storeConditional_40 (by decide) (fun c4 => ?_) (fun c4 => ?_)
        · exact absurd c4 (by decide)
        · rw [sp_storeConditional_eq hj c2] at ret
          refine lv_iconst (v := 1) hx hb dX2_storeConditional_43 (by decide) ?_
          refine lv_goto (tgt := 48) hx hb dX2_storeConditional_44 (by decide) ?_
          exact ret _ _ _ _ _ _ _ (⟨rfl, rfl, rfl⟩) I dX2_storeConditional_48
  · exact absurd c1 (by decide)
theorem my_storeConditional {l : Launch} {D : va_G} {ad : Nat → Nat} {cA : Nat → ClassId} {mem : Nat → Int32} {rs : Int32} {a v : Int32} : yMi l yX2_storeConditional cX2_storeConditional 4 .int (rmF 1 22) D ad cA mem rs [.ref (ad 0), .int a, .int v] (yPost (sp_storeConditional mem rs a v)) := by
  rcases pk_ix a (n := 256) (by decide) with q | q | ⟨j, hj, rfl⟩
  · exact my_storeConditional_bad (Or.inl q)
  · exact my_storeConditional_bad (Or.inr q)
  · exact my_storeConditional_good hj
set_option maxHeartbeats 4000000 in
theorem my_deviceRead {l : Launch} {D : va_G} {ad : Nat → Nat} {cA : Nat → ClassId} {mem : Nat → Int32} {rs : Int32} {a : Int32} : yMi l yX2_deviceRead cX2_deviceRead 2 .int (rmF 2 42) D ad cA mem rs [.ref (ad 0), .int a] (yPost (sp_load mem rs a)) := by
  refine yMi_of rfl (by decide) (Nat.le_of_ble_eq_true rfl) (fun _ _ _ _ => rfl) ?_
  intro p e s m args below meth c Q A H0 ls C I hl ret
  have hx := C.1.1
  have hb := C.1.2.1
  have hl : lv_has ls 2 [(0, .ref (ad 0)), (1, .int a)] := hl
  refine lv_aload_n hx hb dX2_deviceRead_0 rfl (hc_g hl rfl) ?_
  refine lv_iload_n hx hb dX2_deviceRead_1 rfl (hc_g hl rfl) ?_
  refine y_calli [.int a] (rest := []) C I hl.1 (my_load) (yw_load C.1.2.2.2.2 rfl rfl ⟨by decide, by decide⟩) rfl rfl (Nat.le_of_ble_eq_true rfl) dX2_deviceRead_2 (fun r_1 mem_1 rs_1 H locs hp I => ?_)
  exact ret _ _ _ _ _ _ _ (hp) I dX2_deviceRead_5
set_option maxHeartbeats 4000000 in
theorem my_deviceWrite {l : Launch} {D : va_G} {ad : Nat → Nat} {cA : Nat → ClassId} {mem : Nat → Int32} {rs : Int32} {a v : Int32} : yMi l yX2_deviceWrite cX2_deviceWrite 3 .int (rmF 2 44) D ad cA mem rs [.ref (ad 0), .int a, .int v] (yPost (sp_store mem rs a v)) := by
  refine yMi_of rfl (by decide) (Nat.le_of_ble_eq_true rfl) (fun _ _ _ _ => rfl) ?_
  intro p e s m args below meth c Q A H0 ls C I hl ret
  have hx := C.1.1
  have hb := C.1.2.1
  have hl : lv_has ls 3 [(0, .ref (ad 0)), (1, .int a), (2, .int v)] := hl
  refine lv_aload_n hx hb dX2_deviceWrite_0 rfl (hc_g hl rfl) ?_
  refine lv_iload_n hx hb dX2_deviceWrite_1 rfl (hc_g hl rfl) ?_
  refine lv_iload_n hx hb dX2_deviceWrite_2 rfl (hc_g hl rfl) ?_
  refine y_calli [.int a, .int v] (rest := []) C I hl.1 (my_store) (yw_store C.1.2.2.2.2 rfl rfl ⟨by decide, by decide⟩) rfl rfl (Nat.le_of_ble_eq_true rfl) dX2_deviceWrite_3 (fun r_1 mem_1 rs_1 H locs hp I => ?_)
  exact ret _ _ _ _ _ _ _ (hp) I dX2_deviceWrite_6
set_option maxHeartbeats 4000000 in
theorem my_hint_bad {l : Launch} {D : va_G} {ad : Nat → Nat} {cA : Nat → ClassId} {mem : Nat → Int32} {rs : Int32} {a how : Int32} (hbad : spBad a 256) : yMi l yX2_hint cX2_hint 3 .int (rmF 1 21) D ad cA mem rs [.ref (ad 0), .int a, .int how] (yPost (sp_hint mem rs a)) := by
  rw [sp_hint_bad hbad]
  refine yMi_of rfl (by decide) (Nat.le_of_ble_eq_true rfl) (fun _ _ _ _ => rfl) ?_
  intro p e s m args below meth c Q A H0 ls C I hl ret
  have hx := C.1.1
  have hb := C.1.2.1
  have hl : lv_has ls 3 [(0, .ref (ad 0)), (1, .int a), (2, .int how)] := hl
  refine lv_aload_n hx hb dX2_hint_0 rfl (hc_g hl rfl) ?_
  refine lv_iload_n hx hb dX2_hint_1 rfl (hc_g hl rfl) ?_
  refine y_callr [.int a] (rest := []) C I hl.1 (my_isWord_bad hbad) (yw_isWord C.1.2.2.2.2 rfl rfl ⟨by decide, by decide⟩) rfl rfl (Nat.le_of_ble_eq_true rfl) dX2_hint_2 (fun r_1 H locs hr_1 I => ?_)
  subst hr_1
  refine lv_if_eq (tgt := 12) hx hb dX2_hint_5 (by decide) (fun c1 => ?_) (fun c1 => ?_)
  · refine lv_iconst (v := -1) hx hb dX2_hint_12 (by decide) ?_
    exact ret _ _ _ _ _ _ _ (⟨rfl, rfl, rfl⟩) I dX2_hint_13
  · exact absurd rfl c1
set_option maxHeartbeats 4000000 in
theorem my_hint_good {l : Launch} {D : va_G} {ad : Nat → Nat} {cA : Nat → ClassId} {mem : Nat → Int32} {rs : Int32} {how : Int32} {j : Nat} (hj : j < 256) : yMi l yX2_hint cX2_hint 3 .int (rmF 1 21) D ad cA mem rs [.ref (ad 0), .int (nI j), .int how] (yPost (sp_hint mem rs (nI j))) := by
  rw [sp_hint_good hj]
  refine yMi_of rfl (by decide) (Nat.le_of_ble_eq_true rfl) (fun _ _ _ _ => rfl) ?_
  intro p e s m args below meth c Q A H0 ls C I hl ret
  have hx := C.1.1
  have hb := C.1.2.1
  have hl : lv_has ls 3 [(0, .ref (ad 0)), (1, .int (nI j)), (2, .int how)] := hl
  refine lv_aload_n hx hb dX2_hint_0 rfl (hc_g hl rfl) ?_
  refine lv_iload_n hx hb dX2_hint_1 rfl (hc_g hl rfl) ?_
  refine y_callr [.int (nI j)] (rest := []) C I hl.1 (my_isWord_good hj) (yw_isWord C.1.2.2.2.2 rfl rfl ⟨by decide, by decide⟩) rfl rfl (Nat.le_of_ble_eq_true rfl) dX2_hint_2 (fun r_1 H locs hr_1 I => ?_)
  subst hr_1
  refine lv_if_eq (tgt := 12) hx hb dX2_hint_5 (by decide) (fun c1 => ?_) (fun c1 => ?_)
  · exact absurd c1 (by decide)
  · refine lv_iconst (v := 0) hx hb dX2_hint_8 (by decide) ?_
    refine lv_goto (tgt := 13) hx hb dX2_hint_9 (by decide) ?_
    exact ret _ _ _ _ _ _ _ (⟨rfl, rfl, rfl⟩) I dX2_hint_13
theorem my_hint {l : Launch} {D : va_G} {ad : Nat → Nat} {cA : Nat → ClassId} {mem : Nat → Int32} {rs : Int32} {a how : Int32} : yMi l yX2_hint cX2_hint 3 .int (rmF 1 21) D ad cA mem rs [.ref (ad 0), .int a, .int how] (yPost (sp_hint mem rs a)) := by
  rcases pk_ix a (n := 256) (by decide) with q | q | ⟨j, hj, rfl⟩
  · exact my_hint_bad (Or.inl q)
  · exact my_hint_bad (Or.inr q)
  · exact my_hint_good hj
set_option maxHeartbeats 4000000 in
theorem my_copy_badA {l : Launch} {D : va_G} {ad : Nat → Nat} {cA : Nat → ClassId} {mem : Nat → Int32} {rs : Int32} {a b n : Int32} (hbad : spBad a 256) : yMi l yX2_copy cX2_copy 5 .int (rmF 1 22) D ad cA mem rs [.ref (ad 0), .int a, .int b, .int n] (yPost (sp_copy mem rs a b n)) := by
  rw [sp_copy_bad (Or.inl hbad)]
  refine yMi_of rfl (by decide) (Nat.le_of_ble_eq_true rfl) (fun _ _ _ _ => rfl) ?_
  intro p e s m args below meth c Q A H0 ls C I hl ret
  have hx := C.1.1
  have hb := C.1.2.1
  have hl : lv_has ls 5 [(0, .ref (ad 0)), (1, .int a), (2, .int b), (3, .int n)] := hl
  refine lv_aload_n hx hb dX2_copy_0 rfl (hc_g hl rfl) ?_
  refine lv_iload_n hx hb dX2_copy_1 rfl (hc_g hl rfl) ?_
  refine y_callr [.int a] (rest := []) C I hl.1 (my_isWord_bad hbad) (yw_isWord C.1.2.2.2.2 rfl rfl ⟨by decide, by decide⟩) rfl rfl (Nat.le_of_ble_eq_true rfl) dX2_copy_2 (fun r_1 H locs hr_1 I => ?_)
  subst hr_1
  refine lv_if_eq (tgt := 16) hx hb dX2_copy_5 (by decide) (fun c1 => ?_) (fun c1 => ?_)
  · refine lv_iconst (v := -1) hx hb dX2_copy_16 (by decide) ?_
    exact ret _ _ _ _ _ _ _ (⟨rfl, rfl, rfl⟩) I dX2_copy_17
  · exact absurd rfl c1
set_option maxHeartbeats 4000000 in
theorem my_copy_badB {l : Launch} {D : va_G} {ad : Nat → Nat} {cA : Nat → ClassId} {mem : Nat → Int32} {rs : Int32} {j : Nat} {b n : Int32} (hj : j < 256) (hbad : spBad b 256) : yMi l yX2_copy cX2_copy 5 .int (rmF 1 22) D ad cA mem rs [.ref (ad 0), .int (nI j), .int b, .int n] (yPost (sp_copy mem rs (nI j) b n)) := by
  rw [sp_copy_bad (Or.inr hbad)]
  refine yMi_of rfl (by decide) (Nat.le_of_ble_eq_true rfl) (fun _ _ _ _ => rfl) ?_
  intro p e s m args below meth c Q A H0 ls C I hl ret
  have hx := C.1.1
  have hb := C.1.2.1
  have hl : lv_has ls 5 [(0, .ref (ad 0)), (1, .int (nI j)), (2, .int b), (3, .int n)] := hl
  refine lv_aload_n hx hb dX2_copy_0 rfl (hc_g hl rfl) ?_
  refine lv_iload_n hx hb dX2_copy_1 rfl (hc_g hl rfl) ?_
  refine y_callr [.int (nI j)] (rest := []) C I hl.1 (my_isWord_good hj) (yw_isWord C.1.2.2.2.2 rfl rfl ⟨by decide, by decide⟩) rfl rfl (Nat.le_of_ble_eq_true rfl) dX2_copy_2 (fun r_1 H locs hr_1 I => ?_)
  subst hr_1
  refine lv_if_eq (tgt := 16) hx hb dX2_copy_5 (by decide) (fun c1 => ?_) (fun c1 => ?_)
  · exact absurd c1 (by decide)
  · refine lv_aload_n hx hb dX2_copy_8 rfl (hc_g hl rfl) ?_
    refine lv_iload_n hx hb dX2_copy_9 rfl (hc_g hl rfl) ?_
    refine y_callr [.int b] (rest := []) C I hl.1 (my_isWord_bad hbad) (yw_isWord C.1.2.2.2.2 rfl rfl ⟨by decide, by decide⟩) rfl rfl (Nat.le_of_ble_eq_true rfl) dX2_copy_10 (fun r_2 H locs hr_2 I => ?_)
    subst hr_2
    refine lv_if_ne (tgt := 18) hx hb dX2_copy_13 (by decide) (fun c2 => ?_) (fun c2 => ?_)
    · exact absurd rfl c2
    · refine lv_iconst (v := -1) hx hb dX2_copy_16 (by decide) ?_
      exact ret _ _ _ _ _ _ _ (⟨rfl, rfl, rfl⟩) I dX2_copy_17
set_option maxHeartbeats 4000000 in
theorem my_copy_len {l : Launch} {D : va_G} {ad : Nat → Nat} {cA : Nat → ClassId} {mem : Nat → Int32} {rs : Int32} {j k : Nat} {n : Int32} (hj : j < 256) (hk : k < 256) (hlen : n < 0 ∨ nI 32 < n ∨ nI 256 < nI j + n ∨ nI 256 < nI k + n) : yMi l yX2_copy cX2_copy 5 .int (rmF 1 22) D ad cA mem rs [.ref (ad 0), .int (nI j), .int (nI k), .int n] (yPost (sp_copy mem rs (nI j) (nI k) n)) := by
  rw [sp_copy_len hj hk hlen]
  refine yMi_of rfl (by decide) (Nat.le_of_ble_eq_true rfl) (fun _ _ _ _ => rfl) ?_
  intro p e s m args below meth c Q A H0 ls C I hl ret
  have hx := C.1.1
  have hb := C.1.2.1
  have hl : lv_has ls 5 [(0, .ref (ad 0)), (1, .int (nI j)), (2, .int (nI k)), (3, .int n)] := hl
  refine lv_aload_n hx hb dX2_copy_0 rfl (hc_g hl rfl) ?_
  refine lv_iload_n hx hb dX2_copy_1 rfl (hc_g hl rfl) ?_
  refine y_callr [.int (nI j)] (rest := []) C I hl.1 (my_isWord_good hj) (yw_isWord C.1.2.2.2.2 rfl rfl ⟨by decide, by decide⟩) rfl rfl (Nat.le_of_ble_eq_true rfl) dX2_copy_2 (fun r_1 H locs hr_1 I => ?_)
  subst hr_1
  refine lv_if_eq (tgt := 16) hx hb dX2_copy_5 (by decide) (fun c1 => ?_) (fun c1 => ?_)
  · exact absurd c1 (by decide)
  · refine lv_aload_n hx hb dX2_copy_8 rfl (hc_g hl rfl) ?_
    refine lv_iload_n hx hb dX2_copy_9 rfl (hc_g hl rfl) ?_
    refine y_callr [.int (nI k)] (rest := []) C I hl.1 (my_isWord_good hk) (yw_isWord C.1.2.2.2.2 rfl rfl ⟨by decide, by decide⟩) rfl rfl (Nat.le_of_ble_eq_true rfl) dX2_copy_10 (fun r_2 H locs hr_2 I => ?_)
    subst hr_2
    refine lv_if_ne (tgt := 18) hx hb dX2_copy_13 (by decide) (fun c2 => ?_) (fun c2 => ?_)
    · refine lv_iload_n hx hb dX2_copy_18 rfl (hc_g hl rfl) ?_
      refine lv_if_lt (tgt := 46) hx hb dX2_copy_19 (by decide) (fun c3 => ?_) (fun c3 => ?_)
      · refine lv_bipush (v := -2) hx hb dX2_copy_46 (by decide) ?_
        exact ret _ _ _ _ _ _ _ (⟨rfl, rfl, rfl⟩) I dX2_copy_48
      · refine lv_iload_n hx hb dX2_copy_22 rfl (hc_g hl rfl) ?_
        refine lv_bipush (v := nI 32) hx hb dX2_copy_23 (by decide) ?_
        refine lv_icmp_gt (tgt := 46) hx hb dX2_copy_25 (by decide) (fun c4 => ?_) (fun c4 => ?_)
        · refine lv_bipush (v := -2) hx hb dX2_copy_46 (by decide) ?_
          exact ret _ _ _ _ _ _ _ (⟨rfl, rfl, rfl⟩) I dX2_copy_48
        · refine lv_iload_n hx hb dX2_copy_28 rfl (hc_g hl rfl) ?_
          refine lv_iload_n hx hb dX2_copy_29 rfl (hc_g hl rfl) ?_
          refine lv_iadd hx hb dX2_copy_30 ?_
          refine lv_sipush (v := nI 256) hx hb dX2_copy_31 (by decide) ?_
          refine lv_icmp_gt (tgt := 46) hx hb dX2_copy_34 (by decide) (fun c5 => ?_) (fun c5 => ?_)
          · refine lv_bipush (v := -2) hx hb dX2_copy_46 (by decide) ?_
            exact ret _ _ _ _ _ _ _ (⟨rfl, rfl, rfl⟩) I dX2_copy_48
          · refine lv_iload_n hx hb dX2_copy_37 rfl (hc_g hl rfl) ?_
            refine lv_iload_n hx hb dX2_copy_38 rfl (hc_g hl rfl) ?_
            refine lv_iadd hx hb dX2_copy_39 ?_
            refine lv_sipush (v := nI 256) hx hb dX2_copy_40 (by decide) ?_
            refine lv_icmp_le (tgt := 49) hx hb dX2_copy_43 (by decide) (fun c6 => ?_) (fun c6 => ?_)
            · exact absurd c6 (by rcases hlen with q | q | q | q; exact absurd q c3; exact absurd q c4; exact absurd q c5; exact hx_nle q)
            · refine lv_bipush (v := -2) hx hb dX2_copy_46 (by decide) ?_
              exact ret _ _ _ _ _ _ _ (⟨rfl, rfl, rfl⟩) I dX2_copy_48
    · exact absurd c2 (by decide)
set_option maxHeartbeats 4000000 in
theorem my_copy_good {l : Launch} {D : va_G} {ad : Nat → Nat} {cA : Nat → ClassId} {mem : Nat → Int32} {rs : Int32} {j k n : Nat} (hj : j < 256) (hk : k < 256) (hc : n ≤ 32) (hjc : j + n ≤ 256) (hkc : k + n ≤ 256) : yMi l yX2_copy cX2_copy 5 .int (rmF 1 22) D ad cA mem rs [.ref (ad 0), .int (nI j), .int (nI k), .int (nI n)] (yPost (sp_copy mem rs (nI j) (nI k) (nI n))) := by
  rw [sp_copy_good hc hjc hkc hj hk]
  refine yMi_of rfl (by decide) (Nat.le_of_ble_eq_true rfl) (fun _ _ _ _ => rfl) ?_
  intro p e s m args below meth c Q A H0 ls C I hl ret
  have hx := C.1.1
  have hb := C.1.2.1
  have hl : lv_has ls 5 [(0, .ref (ad 0)), (1, .int (nI j)), (2, .int (nI k)), (3, .int (nI n))] := hl
  refine lv_aload_n hx hb dX2_copy_0 rfl (hc_g hl rfl) ?_
  refine lv_iload_n hx hb dX2_copy_1 rfl (hc_g hl rfl) ?_
  refine y_callr [.int (nI j)] (rest := []) C I hl.1 (my_isWord_good hj) (yw_isWord C.1.2.2.2.2 rfl rfl ⟨by decide, by decide⟩) rfl rfl (Nat.le_of_ble_eq_true rfl) dX2_copy_2 (fun r_1 H locs hr_1 I => ?_)
  subst hr_1
  refine lv_if_eq (tgt := 16) hx hb dX2_copy_5 (by decide) (fun c1 => ?_) (fun c1 => ?_)
  · exact absurd c1 (by decide)
  · refine lv_aload_n hx hb dX2_copy_8 rfl (hc_g hl rfl) ?_
    refine lv_iload_n hx hb dX2_copy_9 rfl (hc_g hl rfl) ?_
    refine y_callr [.int (nI k)] (rest := []) C I hl.1 (my_isWord_good hk) (yw_isWord C.1.2.2.2.2 rfl rfl ⟨by decide, by decide⟩) rfl rfl (Nat.le_of_ble_eq_true rfl) dX2_copy_10 (fun r_2 H locs hr_2 I => ?_)
    subst hr_2
    refine lv_if_ne (tgt := 18) hx hb dX2_copy_13 (by decide) (fun c2 => ?_) (fun c2 => ?_)
    · refine lv_iload_n hx hb dX2_copy_18 rfl (hc_g hl rfl) ?_
      refine lv_if_lt (tgt := 46) hx hb dX2_copy_19 (by decide) (fun c3 => ?_) (fun c3 => ?_)
      · exact absurd c3 (nI_pos (by omega))
      · refine lv_iload_n hx hb dX2_copy_22 rfl (hc_g hl rfl) ?_
        refine lv_bipush (v := nI 32) hx hb dX2_copy_23 (by decide) ?_
        refine lv_icmp_gt (tgt := 46) hx hb dX2_copy_25 (by decide) (fun c4 => ?_) (fun c4 => ?_)
        · exact absurd c4 (nI_nlt hc (by decide))
        · refine lv_iload_n hx hb dX2_copy_28 rfl (hc_g hl rfl) ?_
          refine lv_iload_n hx hb dX2_copy_29 rfl (hc_g hl rfl) ?_
          refine hc_addN hx hb dX2_copy_30 ?_
          refine lv_sipush (v := nI 256) hx hb dX2_copy_31 (by decide) ?_
          refine lv_icmp_gt (tgt := 46) hx hb dX2_copy_34 (by decide) (fun c5 => ?_) (fun c5 => ?_)
          · exact absurd c5 (nI_nlt hjc (by decide))
          · refine lv_iload_n hx hb dX2_copy_37 rfl (hc_g hl rfl) ?_
            refine lv_iload_n hx hb dX2_copy_38 rfl (hc_g hl rfl) ?_
            refine hc_addN hx hb dX2_copy_39 ?_
            refine lv_sipush (v := nI 256) hx hb dX2_copy_40 (by decide) ?_
            refine lv_icmp_le (tgt := 49) hx hb dX2_copy_43 (by decide) (fun c6 => ?_) (fun c6 => ?_)
            · refine lv_iconst (v := nI 0) hx hb dX2_copy_49 (by decide) ?_
              refine lv_istore (lv' := [(4, .int (nI 0)), (0, .ref (ad 0)), (1, .int (nI j)), (2, .int (nI k)), (3, .int (nI n))]) hx hb dX2_copy_50 hl (by decide) rfl (fun ls hl => ?_)
              refine hc_loop (S := Unit) (fun i _ H locs ls => yI D A H0 ad cA ((spCp mem rs j k i).1) ((spCp mem rs j k i).2) H locs ∧ lv_has ls 5 [(4, .int (nI i)), (0, .ref (ad 0)), (1, .int (nI j)), (2, .int (nI k)), (3, .int (nI n))]) n (fun i _ H locs ls hi hI back => ?_) 0 () _ _ _ (Nat.zero_le _) ⟨I, lv_sub hl [0, 1, 2, 3, 4] rfl⟩
              obtain ⟨I, hl⟩ := hI
              refine lv_iload hx hb dX2_copy_52 (hc_g hl rfl) ?_
              refine lv_iload_n hx hb dX2_copy_54 rfl (hc_g hl rfl) ?_
              refine lv_icmp_ge (tgt := 81) hx hb dX2_copy_55 (by decide) (fun c7 => ?_) (fun c7 => ?_)
              · have hie : i = n := Nat.le_antisymm hi ((nI_leI (by omega) (by omega)).mp c7)
                subst hie
                refine lv_iload_n hx hb dX2_copy_81 rfl (hc_g hl rfl) ?_
                exact ret _ _ _ _ _ _ _ (⟨rfl, rfl, rfl⟩) I dX2_copy_82
              · have hlt : i < n := Nat.lt_of_not_le (fun h => c7 (nI_le h (by omega)))
                refine lv_aload_n hx hb dX2_copy_58 rfl (hc_g hl rfl) ?_
                refine lv_iload_n hx hb dX2_copy_59 rfl (hc_g hl rfl) ?_
                refine lv_iload hx hb dX2_copy_60 (hc_g hl rfl) ?_
                refine hc_addN hx hb dX2_copy_62 ?_
                refine lv_aload_n hx hb dX2_copy_63 rfl (hc_g hl rfl) ?_
                refine yg_mem C I dX2_copy_64 ?_
                refine lv_iload_n hx hb dX2_copy_67 rfl (hc_g hl rfl) ?_
                refine lv_iload hx hb dX2_copy_68 (hc_g hl rfl) ?_
                refine hc_addN hx hb dX2_copy_70 ?_
                refine yl_mem C I (by omega) dX2_copy_71 ?_
                refine y_callv [.int (nI (k + i)), .int (((spCp mem rs j k i).1) (j + i))] (rest := []) C I hl.1 (my_write (by omega)) (yw_write C.1.2.2.2.2 rfl rfl ⟨by decide, by decide⟩) rfl rfl (Nat.le_of_ble_eq_true rfl) dX2_copy_72 (fun mem_1 rs_1 H locs hp I => ?_)
                obtain ⟨rfl, rfl⟩ := hp
                refine lv_iinc (v := nI (i + 1)) (lv' := [(4, .int (nI (i + 1))), (0, .ref (ad 0)), (1, .int (nI j)), (2, .int (nI k)), (3, .int (nI n))]) hx hb dX2_copy_75 hl (k := 0) rfl (nI_1 _) (by decide) rfl (fun ls hl => ?_)
                refine lv_goto (tgt := 52) hx hb dX2_copy_78 (by decide) ?_
                exact back hlt () _ _ _ ⟨I, lv_sub hl [0, 1, 2, 3, 4] rfl⟩
            · exact absurd (nI_le hkc (by decide)) c6
    · exact absurd c2 (by decide)
theorem my_copy {l : Launch} {D : va_G} {ad : Nat → Nat} {cA : Nat → ClassId} {mem : Nat → Int32} {rs : Int32} {a b n : Int32} : yMi l yX2_copy cX2_copy 5 .int (rmF 1 22) D ad cA mem rs [.ref (ad 0), .int a, .int b, .int n] (yPost (sp_copy mem rs a b n)) := by
  rcases pk_ix a (n := 256) (by decide) with q | q | ⟨j, hj, rfl⟩
  · exact my_copy_badA (Or.inl q)
  · exact my_copy_badA (Or.inr q)
  · rcases pk_ix b (n := 256) (by decide) with q | q | ⟨k, hk, rfl⟩
    · exact my_copy_badB hj (Or.inl q)
    · exact my_copy_badB hj (Or.inr q)
    · rcases spLen_copy n hj hk with q | ⟨c, hc, h1, h2, rfl⟩
      · exact my_copy_len hj hk q
      · exact my_copy_good hj hk hc h1 h2
set_option maxHeartbeats 4000000 in
theorem my_deviceFill_bad {l : Launch} {D : va_G} {ad : Nat → Nat} {cA : Nat → ClassId} {mem : Nat → Int32} {rs : Int32} {a n v : Int32} (hbad : spBad a 256) : yMi l yX2_deviceFill cX2_deviceFill 5 .int (rmF 1 22) D ad cA mem rs [.ref (ad 0), .int a, .int n, .int v] (yPost (sp_deviceFill mem rs a n v)) := by
  rw [sp_deviceFill_bad hbad]
  refine yMi_of rfl (by decide) (Nat.le_of_ble_eq_true rfl) (fun _ _ _ _ => rfl) ?_
  intro p e s m args below meth c Q A H0 ls C I hl ret
  have hx := C.1.1
  have hb := C.1.2.1
  have hl : lv_has ls 5 [(0, .ref (ad 0)), (1, .int a), (2, .int n), (3, .int v)] := hl
  refine lv_aload_n hx hb dX2_deviceFill_0 rfl (hc_g hl rfl) ?_
  refine lv_iload_n hx hb dX2_deviceFill_1 rfl (hc_g hl rfl) ?_
  refine y_callr [.int a] (rest := []) C I hl.1 (my_isWord_bad hbad) (yw_isWord C.1.2.2.2.2 rfl rfl ⟨by decide, by decide⟩) rfl rfl (Nat.le_of_ble_eq_true rfl) dX2_deviceFill_2 (fun r_1 H locs hr_1 I => ?_)
  subst hr_1
  refine lv_if_ne (tgt := 10) hx hb dX2_deviceFill_5 (by decide) (fun c1 => ?_) (fun c1 => ?_)
  · exact absurd rfl c1
  · refine lv_iconst (v := -1) hx hb dX2_deviceFill_8 (by decide) ?_
    exact ret _ _ _ _ _ _ _ (⟨rfl, rfl, rfl⟩) I dX2_deviceFill_9
set_option maxHeartbeats 4000000 in
theorem my_deviceFill_len {l : Launch} {D : va_G} {ad : Nat → Nat} {cA : Nat → ClassId} {mem : Nat → Int32} {rs : Int32} {j : Nat} {n v : Int32} (hj : j < 256) (hlen : n < 0 ∨ nI 64 < n ∨ nI 256 < nI j + n) : yMi l yX2_deviceFill cX2_deviceFill 5 .int (rmF 1 22) D ad cA mem rs [.ref (ad 0), .int (nI j), .int n, .int v] (yPost (sp_deviceFill mem rs (nI j) n v)) := by
  rw [sp_deviceFill_len hj hlen]
  refine yMi_of rfl (by decide) (Nat.le_of_ble_eq_true rfl) (fun _ _ _ _ => rfl) ?_
  intro p e s m args below meth c Q A H0 ls C I hl ret
  have hx := C.1.1
  have hb := C.1.2.1
  have hl : lv_has ls 5 [(0, .ref (ad 0)), (1, .int (nI j)), (2, .int n), (3, .int v)] := hl
  refine lv_aload_n hx hb dX2_deviceFill_0 rfl (hc_g hl rfl) ?_
  refine lv_iload_n hx hb dX2_deviceFill_1 rfl (hc_g hl rfl) ?_
  refine y_callr [.int (nI j)] (rest := []) C I hl.1 (my_isWord_good hj) (yw_isWord C.1.2.2.2.2 rfl rfl ⟨by decide, by decide⟩) rfl rfl (Nat.le_of_ble_eq_true rfl) dX2_deviceFill_2 (fun r_1 H locs hr_1 I => ?_)
  subst hr_1
  refine lv_if_ne (tgt := 10) hx hb dX2_deviceFill_5 (by decide) (fun c1 => ?_) (fun c1 => ?_)
  · refine lv_iload_n hx hb dX2_deviceFill_10 rfl (hc_g hl rfl) ?_
    refine lv_if_lt (tgt := 29) hx hb dX2_deviceFill_11 (by decide) (fun c3 => ?_) (fun c3 => ?_)
    · refine lv_bipush (v := -2) hx hb dX2_deviceFill_29 (by decide) ?_
      exact ret _ _ _ _ _ _ _ (⟨rfl, rfl, rfl⟩) I dX2_deviceFill_31
    · refine lv_iload_n hx hb dX2_deviceFill_14 rfl (hc_g hl rfl) ?_
      refine lv_bipush (v := nI 64) hx hb dX2_deviceFill_15 (by decide) ?_
      refine lv_icmp_gt (tgt := 29) hx hb dX2_deviceFill_17 (by decide) (fun c4 => ?_) (fun c4 => ?_)
      · refine lv_bipush (v := -2) hx hb dX2_deviceFill_29 (by decide) ?_
        exact ret _ _ _ _ _ _ _ (⟨rfl, rfl, rfl⟩) I dX2_deviceFill_31
      · refine lv_iload_n hx hb dX2_deviceFill_20 rfl (hc_g hl rfl) ?_
        refine lv_iload_n hx hb dX2_deviceFill_21 rfl (hc_g hl rfl) ?_
        refine lv_iadd hx hb dX2_deviceFill_22 ?_
        refine lv_sipush (v := nI 256) hx hb dX2_deviceFill_23 (by decide) ?_
        refine lv_icmp_le (tgt := 32) hx hb dX2_deviceFill_26 (by decide) (fun c6 => ?_) (fun c6 => ?_)
        · exact absurd c6 (by rcases hlen with q | q | q; exact absurd q c3; exact absurd q c4; exact hx_nle q)
        · refine lv_bipush (v := -2) hx hb dX2_deviceFill_29 (by decide) ?_
          exact ret _ _ _ _ _ _ _ (⟨rfl, rfl, rfl⟩) I dX2_deviceFill_31
  · exact absurd c1 (by decide)
set_option maxHeartbeats 4000000 in
theorem my_deviceFill_good {l : Launch} {D : va_G} {ad : Nat → Nat} {cA : Nat → ClassId} {mem : Nat → Int32} {rs : Int32} {j n : Nat} {v : Int32} (hj : j < 256) (hc : n ≤ 64) (hjc : j + n ≤ 256) : yMi l yX2_deviceFill cX2_deviceFill 5 .int (rmF 1 22) D ad cA mem rs [.ref (ad 0), .int (nI j), .int (nI n), .int v] (yPost (sp_deviceFill mem rs (nI j) (nI n) v)) := by
  rw [sp_deviceFill_good hc hjc hj]
  refine yMi_of rfl (by decide) (Nat.le_of_ble_eq_true rfl) (fun _ _ _ _ => rfl) ?_
  intro p e s m args below meth c Q A H0 ls C I hl ret
  have hx := C.1.1
  have hb := C.1.2.1
  have hl : lv_has ls 5 [(0, .ref (ad 0)), (1, .int (nI j)), (2, .int (nI n)), (3, .int v)] := hl
  refine lv_aload_n hx hb dX2_deviceFill_0 rfl (hc_g hl rfl) ?_
  refine lv_iload_n hx hb dX2_deviceFill_1 rfl (hc_g hl rfl) ?_
  refine y_callr [.int (nI j)] (rest := []) C I hl.1 (my_isWord_good hj) (yw_isWord C.1.2.2.2.2 rfl rfl ⟨by decide, by decide⟩) rfl rfl (Nat.le_of_ble_eq_true rfl) dX2_deviceFill_2 (fun r_1 H locs hr_1 I => ?_)
  subst hr_1
  refine lv_if_ne (tgt := 10) hx hb dX2_deviceFill_5 (by decide) (fun c1 => ?_) (fun c1 => ?_)
  · refine lv_iload_n hx hb dX2_deviceFill_10 rfl (hc_g hl rfl) ?_
    refine lv_if_lt (tgt := 29) hx hb dX2_deviceFill_11 (by decide) (fun c3 => ?_) (fun c3 => ?_)
    · exact absurd c3 (nI_pos (by omega))
    · refine lv_iload_n hx hb dX2_deviceFill_14 rfl (hc_g hl rfl) ?_
      refine lv_bipush (v := nI 64) hx hb dX2_deviceFill_15 (by decide) ?_
      refine lv_icmp_gt (tgt := 29) hx hb dX2_deviceFill_17 (by decide) (fun c4 => ?_) (fun c4 => ?_)
      · exact absurd c4 (nI_nlt hc (by decide))
      · refine lv_iload_n hx hb dX2_deviceFill_20 rfl (hc_g hl rfl) ?_
        refine lv_iload_n hx hb dX2_deviceFill_21 rfl (hc_g hl rfl) ?_
        refine hc_addN hx hb dX2_deviceFill_22 ?_
        refine lv_sipush (v := nI 256) hx hb dX2_deviceFill_23 (by decide) ?_
        refine lv_icmp_le (tgt := 32) hx hb dX2_deviceFill_26 (by decide) (fun c6 => ?_) (fun c6 => ?_)
        · refine lv_iconst (v := nI 0) hx hb dX2_deviceFill_32 (by decide) ?_
          refine lv_istore (lv' := [(4, .int (nI 0)), (0, .ref (ad 0)), (1, .int (nI j)), (2, .int (nI n)), (3, .int v)]) hx hb dX2_deviceFill_33 hl (by decide) rfl (fun ls hl => ?_)
          refine hc_loop (S := Unit) (fun i _ H locs ls => yI D A H0 ad cA ((spFi mem rs j v i).1) ((spFi mem rs j v i).2) H locs ∧ lv_has ls 5 [(4, .int (nI i)), (0, .ref (ad 0)), (1, .int (nI j)), (2, .int (nI n)), (3, .int v)]) n (fun i _ H locs ls hi hI back => ?_) 0 () _ _ _ (Nat.zero_le _) ⟨I, lv_sub hl [0, 1, 2, 3, 4] rfl⟩
          obtain ⟨I, hl⟩ := hI
          refine lv_iload hx hb dX2_deviceFill_35 (hc_g hl rfl) ?_
          refine lv_iload_n hx hb dX2_deviceFill_37 rfl (hc_g hl rfl) ?_
          refine lv_icmp_ge (tgt := 56) hx hb dX2_deviceFill_38 (by decide) (fun c7 => ?_) (fun c7 => ?_)
          · have hie : i = n := Nat.le_antisymm hi ((nI_leI (by omega) (by omega)).mp c7)
            subst hie
            refine lv_iload_n hx hb dX2_deviceFill_56 rfl (hc_g hl rfl) ?_
            exact ret _ _ _ _ _ _ _ (⟨rfl, rfl, rfl⟩) I dX2_deviceFill_57
          · have hlt : i < n := Nat.lt_of_not_le (fun h => c7 (nI_le h (by omega)))
            refine lv_aload_n hx hb dX2_deviceFill_41 rfl (hc_g hl rfl) ?_
            refine lv_iload_n hx hb dX2_deviceFill_42 rfl (hc_g hl rfl) ?_
            refine lv_iload hx hb dX2_deviceFill_43 (hc_g hl rfl) ?_
            refine hc_addN hx hb dX2_deviceFill_45 ?_
            refine lv_iload_n hx hb dX2_deviceFill_46 rfl (hc_g hl rfl) ?_
            refine y_callv [.int (nI (j + i)), .int v] (rest := []) C I hl.1 (my_write (by omega)) (yw_write C.1.2.2.2.2 rfl rfl ⟨by decide, by decide⟩) rfl rfl (Nat.le_of_ble_eq_true rfl) dX2_deviceFill_47 (fun mem_1 rs_1 H locs hp I => ?_)
            obtain ⟨rfl, rfl⟩ := hp
            refine lv_iinc (v := nI (i + 1)) (lv' := [(4, .int (nI (i + 1))), (0, .ref (ad 0)), (1, .int (nI j)), (2, .int (nI n)), (3, .int v)]) hx hb dX2_deviceFill_50 hl (k := 0) rfl (nI_1 _) (by decide) rfl (fun ls hl => ?_)
            refine lv_goto (tgt := 35) hx hb dX2_deviceFill_53 (by decide) ?_
            exact back hlt () _ _ _ ⟨I, lv_sub hl [0, 1, 2, 3, 4] rfl⟩
        · exact absurd (nI_le hjc (by decide)) c6
  · exact absurd c1 (by decide)
theorem my_deviceFill {l : Launch} {D : va_G} {ad : Nat → Nat} {cA : Nat → ClassId} {mem : Nat → Int32} {rs : Int32} {a n v : Int32} : yMi l yX2_deviceFill cX2_deviceFill 5 .int (rmF 1 22) D ad cA mem rs [.ref (ad 0), .int a, .int n, .int v] (yPost (sp_deviceFill mem rs a n v)) := by
  rcases pk_ix a (n := 256) (by decide) with q | q | ⟨j, hj, rfl⟩
  · exact my_deviceFill_bad (Or.inl q)
  · exact my_deviceFill_bad (Or.inr q)
  · rcases spLen_fill n hj with q | ⟨c, hc, h1, rfl⟩
    · exact my_deviceFill_len hj q
    · exact my_deviceFill_good hj hc h1
set_option maxHeartbeats 4000000 in
theorem my_sum {l : Launch} {D : va_G} {ad : Nat → Nat} {cA : Nat → ClassId} {mem : Nat → Int32} {rs : Int32}  : yMi l yX2_sum cX2_sum 3 .int (rmF 0 0) D ad cA mem rs [.ref (ad 0)] (yPost (sp_sum mem rs)) := by
  refine yMi_of rfl (by decide) (Nat.le_of_ble_eq_true rfl) (fun _ _ _ _ => rfl) ?_
  intro p e s m args below meth c Q A H0 ls C I hl ret
  have hx := C.1.1
  have hb := C.1.2.1
  have hl : lv_has ls 3 [(0, .ref (ad 0))] := hl
  refine lv_iconst (v := 0) hx hb dX2_sum_0 (by decide) ?_
  refine lv_istore_n (lv' := [(1, .int (0)), (0, .ref (ad 0))]) hx hb dX2_sum_1 rfl hl (by decide) rfl (fun ls hl => ?_)
  refine lv_iconst (v := nI 0) hx hb dX2_sum_2 (by decide) ?_
  refine lv_istore_n (lv' := [(2, .int (nI 0)), (1, .int (0)), (0, .ref (ad 0))]) hx hb dX2_sum_3 rfl hl (by decide) rfl (fun ls hl => ?_)
  refine hc_loop (S := Unit) (fun i _ H locs ls => yI D A H0 ad cA mem rs H locs ∧ lv_has ls 3 [(2, .int (nI i)), (1, .int (spSum mem i)), (0, .ref (ad 0))]) 256 (fun i _ H locs ls hi hI back => ?_) 0 () _ _ _ (Nat.zero_le _) ⟨I, lv_sub hl [0, 1, 2] rfl⟩
  obtain ⟨I, hl⟩ := hI
  refine lv_iload_n hx hb dX2_sum_4 rfl (hc_g hl rfl) ?_
  refine lv_sipush (v := nI 256) hx hb dX2_sum_5 (by decide) ?_
  refine lv_icmp_ge (tgt := 26) hx hb dX2_sum_8 (by decide) (fun c1 => ?_) (fun c1 => ?_)
  · have hie : i = 256 := Nat.le_antisymm hi ((nI_leI (by omega) (by omega)).mp c1)
    subst hie
    refine lv_iload_n hx hb dX2_sum_26 rfl (hc_g hl rfl) ?_
    exact ret _ _ _ _ _ _ _ (⟨rfl, rfl, rfl⟩) I dX2_sum_27
  · have hlt : i < 256 := Nat.lt_of_not_le (fun h => c1 (nI_le h (by omega)))
    refine lv_iload_n hx hb dX2_sum_11 rfl (hc_g hl rfl) ?_
    refine lv_aload_n hx hb dX2_sum_12 rfl (hc_g hl rfl) ?_
    refine yg_mem C I dX2_sum_13 ?_
    refine lv_iload_n hx hb dX2_sum_16 rfl (hc_g hl rfl) ?_
    refine yl_mem C I (by omega) dX2_sum_17 ?_
    refine lv_iadd hx hb dX2_sum_18 ?_
    refine hc_re (spSum mem (i + 1)) (rfl) ?_
    refine lv_istore_n (lv' := [(1, .int (spSum mem (i + 1))), (2, .int (nI i)), (0, .ref (ad 0))]) hx hb dX2_sum_19 rfl hl (by decide) rfl (fun ls hl => ?_)
    refine lv_iinc (v := nI (i + 1)) (lv' := [(2, .int (nI (i + 1))), (1, .int (spSum mem (i + 1))), (0, .ref (ad 0))]) hx hb dX2_sum_20 hl (k := 1) rfl (nI_1 _) (by decide) rfl (fun ls hl => ?_)
    refine lv_goto (tgt := 4) hx hb dX2_sum_23 (by decide) ?_
    exact back hlt () _ _ _ ⟨I, lv_sub hl [0, 1, 2] rfl⟩
set_option maxHeartbeats 4000000 in
theorem my_reserved {l : Launch} {D : va_G} {ad : Nat → Nat} {cA : Nat → ClassId} {mem : Nat → Int32} {rs : Int32}  : yMi l yX2_reserved cX2_reserved 1 .int (rmF 0 0) D ad cA mem rs [.ref (ad 0)] (yPost (sp_reserved mem rs)) := by
  refine yMi_of rfl (by decide) (Nat.le_of_ble_eq_true rfl) (fun _ _ _ _ => rfl) ?_
  intro p e s m args below meth c Q A H0 ls C I hl ret
  have hx := C.1.1
  have hb := C.1.2.1
  have hl : lv_has ls 1 [(0, .ref (ad 0))] := hl
  refine lv_aload_n hx hb dX2_reserved_0 rfl (hc_g hl rfl) ?_
  refine yg_rs C I dX2_reserved_1 ?_
  exact ret _ _ _ _ _ _ _ (⟨rfl, rfl, rfl⟩) I dX2_reserved_4
end
section
set_option maxRecDepth 100000
theorem zw_cell {R : Room} {s : State} {args : Array Value} {rm : Room} {mc ms : Nat} (ht : ∀ w ∈ lw_all, w.before args s = true) (hc : rm.cells = mc) (hs : rm.slots = ms) (hR : rm.frames + 1 ≤ R.frames ∧ 8 + (2 + 11) + rm.locals ≤ R.locals) : CallB R s args RX0 9 yX0_cell cX0_cell 2 (some .int) (ws_ yX0_cell cX0_cell 2 (some .int)) rm mc ms 2 ∧ (Cond.static yX0_cell).before args s = true := va_cwS 2 ht (lw_S q218 q219 q24 q220) rfl hc hs (by decide +kernel) hR
theorem zwx_init {R : Room} {s : State} {args : Array Value} {rm : Room} {mc ms : Nat} (ht : ∀ w ∈ lw_all, w.before args s = true) (hc : rm.cells = mc) (hs : rm.slots = ms) (hR : rm.frames + 1 ≤ R.frames ∧ 8 + (3 + 11) + rm.locals ≤ R.locals) : CallB R s args RX0 15 yX1_init cX1_init 3 none (ws_ yX1_init cX1_init 3 none) rm mc ms 1 ∧ yX1_init.name = "<init>" ∧ (Cond.instanceMethod yX1_init).before args s = true := cwI 1 ht (lw_meth q31) rfl hc hs (ht _ q25) (ht _ q29) (ht _ q30) rfl (by decide +kernel) hR
theorem zwy_init {R : Room} {s : State} {args : Array Value} {rm : Room} {mc ms : Nat} (ht : ∀ w ∈ lw_all, w.before args s = true) (hc : rm.cells = mc) (hs : rm.slots = ms) (hR : rm.frames + 1 ≤ R.frames ∧ 8 + (2 + 11) + rm.locals ≤ R.locals) : CallB R s args RX0 20 yX2_init cX2_init 2 none (ws_ yX2_init cX2_init 2 none) rm mc ms 1 ∧ yX2_init.name = "<init>" ∧ (Cond.instanceMethod yX2_init).before args s = true := cwI 1 ht (lw_meth q225) rfl hc hs (ht _ q26) (ht _ q223) (ht _ q224) rfl (by decide +kernel) hR
theorem hc_arrI (n : Nat) (cA : ClassId) : vp_cell cA (n, .inl (fun _ => 0)) = arrV cA n (fun _ => defaultValue .int) := rfl
theorem hc_arrZ (n : Nat) (cA : ClassId) : vp_cell cA (n, .inl (fun _ => 0)) = arrV cA n (fun _ => defaultValue .boolean) := rfl
theorem hc_cbI : componentBytes .int = 4 := rfl
theorem hc_cbZ : componentBytes .boolean = 1 := rfl
abbrev xF0 : List Value := [.null, .null, .null, .null, .null, .int 0, .int 0, .int 0, .int 0, .int 0, .int 0]
abbrev yF0 : List Value := [.null, .int 0]
def adOf (a0 a1 a2 a3 a4 a5 : Nat) : Nat → Nat := fun k => match k with
  | 0 => a0
  | 1 => a1
  | 2 => a2
  | 3 => a3
  | 4 => a4
  | _ => a5
def cOf (c1 c2 c3 c4 c5 : ClassId) : Nat → ClassId := fun k => match k with
  | 0 => c1
  | 1 => c1
  | 2 => c2
  | 3 => c3
  | 4 => c4
  | _ => c5
def xNew (D : va_G) (h0 sz : Nat) (t : State) : Prop := ∃ (ad : Nat → Nat) (cA : Nat → ClassId) (fs ss : Nat) (la : Int32) (lin usd : Nat → Int32) (clk lm : Int32), ad 0 = h0 ∧ fs < 2 ∧ ss < 2 ∧ (∀ q, q < 26 → lin q = -1) ∧ va_P D vwCl (xW ad cA fs ss la (fun _ => 0) lin (fun _ => 0) usd (fun _ => 0) clk lm (-1)) t.heap ∧ va_K D vwCl (xT cA) t ∧ va_D (va_A [(h0, .inr (0, xF0))] sz) (xW ad cA fs ss la (fun _ => 0) lin (fun _ => 0) usd (fun _ => 0) clk lm (-1))
def yNew (D : va_G) (h0 sz : Nat) (t : State) : Prop := ∃ (ad : Nat → Nat) (cA : Nat → ClassId), ad 0 = h0 ∧ va_P D vwCl (yW ad cA (fun _ => 0) (-1)) t.heap ∧ va_K D vwCl (yT cA) t ∧ va_D (va_A [(h0, .inr (1, yF0))] sz) (yW ad cA (fun _ => 0) (-1))
set_option maxHeartbeats 4000000 in
theorem xinit_tail {p : Program} {l : Launch} {e : Env} {R : Room} {s : State} {m : MethodId} {args : Array Value} {below : List Frame} {meth : Method} {c : Code} {H : Heap} {locs : List Loc} {cells slots : Nat} {Q : State → Prop} {ls : Array Slot} {D : va_G} {A : Nat → Prop} {H0 : Heap} {ad : Nat → Nat} {cA : Nat → ClassId} {fs ss : Nat} {la x : Int32} {mem lin chg wrd : Nat → Int32} {rs : Int32} (C : xC p s m args c cX1_init 3 D cA A H0) (I : xI D A H0 ad cA fs ss la mem lin chg wrd rs H locs) (hl : lv_has ls 3 [(2, .int (nI 0)), (0, .ref (ad 0)), (1, .int x)])
    (ret : ∀ (lin' : Nat → Int32) (H' : Heap) (locs' : List Loc) (ls' : Array Slot), (∀ q, q < 26 → lin' q = -1) → xI D A H0 ad cA fs ss la mem lin' chg wrd rs H' locs' → W p l e R s m args below meth c H' locs' cells slots Q (F0 m 110 ls' [])) : W p l e R s m args below meth c H locs cells slots Q (F0 m 91 ls []) := by
  have hx := C.1.1
  have hb := C.1.2.1
  refine hc_loop (S := Unit) (fun i _ H locs ls => ∃ lin : Nat → Int32, (∀ q, q < i → lin q = -1) ∧ xI D A H0 ad cA fs ss la mem lin chg wrd rs H locs ∧ lv_has ls 3 [(2, .int (nI i)), (0, .ref (ad 0)), (1, .int x)]) 26 (fun i _ H locs ls hi hI back => ?_) 0 () _ _ _ (Nat.zero_le _) ⟨lin, fun q hq => absurd hq (Nat.not_lt_zero _), I, hl⟩
  clear I hl
  obtain ⟨lin, hq, I, hl⟩ := hI
  refine lv_iload_n hx hb dX1_init_91 rfl (hc_g hl rfl) ?_
  refine lv_bipush (v := nI 26) hx hb dX1_init_92 (by decide) ?_
  refine lv_icmp_ge (tgt := 110) hx hb dX1_init_94 (by decide) (fun c1 => ?_) (fun c1 => ?_)
  · have hie : i = 26 := Nat.le_antisymm hi ((nI_leI (by omega) (by omega)).mp c1)
    subst hie
    exact ret _ _ _ _ hq I
  · have hlt : i < 26 := Nat.lt_of_not_le (fun h => c1 (nI_le h (by omega)))
    refine lv_aload_n hx hb dX1_init_97 rfl (hc_g hl rfl) ?_
    refine xg_lin C I dX1_init_98 ?_
    refine lv_iload_n hx hb dX1_init_101 rfl (hc_g hl rfl) ?_
    refine lv_iconst (v := -1) hx hb dX1_init_102 (by decide) ?_
    refine xs_lin C I (by omega) dX1_init_103 (fun H locs I => ?_)
    refine lv_iinc (v := nI (i + 1)) (lv' := [(2, .int (nI (i + 1))), (0, .ref (ad 0)), (1, .int x)]) hx hb dX1_init_104 hl (k := 0) rfl (nI_1 _) (by decide) rfl (fun ls hl => ?_)
    refine lv_goto (tgt := 91) hx hb dX1_init_107 (by decide) ?_
    refine back hlt () _ _ _ ⟨_, fun z hz => ?_, I, lv_sub hl [0, 1, 2] rfl⟩
    by_cases hzi : z = i
    · rw [hzi]; exact hu_s
    · rw [hu_n hzi]; exact hq z (by omega)
set_option maxHeartbeats 4000000 in
/-- HiddenCaches(shape): five arrays are made, all places are empty -/
theorem met_init (l : Launch) (D : va_G) (h0 sz : Nat) (x : Int32) : Met l yX1_init (ws_ yX1_init cX1_init 3 none) ({ frames := 1, cells := 5, slots := 438, locals := 12 }) (va_Pc [.ref h0, .int x] (fun U => U.heap.size = sz ∧ va_P D vwCl [(h0, .inr (0, xF0))] U.heap ∧ va_K D vwCl [] U ∧ va_D (fun _ => True) [(h0, .inr (0, xF0))])) (va_Qv (fun _ : Unit => True) (fun _ t => xNew D h0 sz t) (va_A [(h0, .inr (0, xF0))] sz)) 5 438 (va_A [(h0, .inr (0, xF0))] sz) := by
  refine Met.ofW (cc := cX1_init) (maxL := 3) (ret := none) (by decide) rfl ?_
  intro p e s m args below meth c s₁ B hml hv
  obtain ⟨rfl, hsz, hP, hK, hD0⟩ := hv
  have hx := B.exec
  have hb := B.bytes
  have hr := B.returns
  have hts := atoms_spec (ws := ws_ yX1_init cX1_init 3 none) B.pre
  have hts : ∀ w ∈ lw_all, w.before _ s = true := fun w h => hts w (List.mem_cons_of_mem _ h)
  have hown : s.vm.findClass RX1 = some m.cls := findClass_of_methodNamed B.named
  have hlocks := B.notSynchronized
  have hin : meth.name = "<init>" := (name_of_methodNamed B.named B.method).1
  subst hsz
  have hD := hD0.self (sz := s.heap.size)
  generalize hAe : va_A [(h0, .inr (0, xF0))] s.heap.size = A at hD ⊢
  have hA : ∀ q : Nat, s.heap.size ≤ q → A q := fun q h => by rw [← hAe]; exact Or.inr h
  have hS : va_S A s.heap s.heap [] := va_S.rf
  have hP : va_P D vwCl [(h0, .inr (0, xF0))] s.heap := hP
  have hl := lv_entry ([.ref h0, .int x]) (n := 3) (Nat.le_of_ble_eq_true rfl)
  rw [lg_entry_eq]
  generalize (lg_sl ([.ref h0, .int x]) ++ List.replicate (3 - (lg_sl ([.ref h0, .int x])).length) Slot.unset).toArray = ls at hl ⊢
  have hl : lv_has ls 3 [(0, .ref h0), (1, .int x)] := hl
  refine lv_aload_n hx hb dX1_init_0 rfl (hc_g hl rfl) ?_
  refine W.objInit hx hb hown (hts _ q32) (hts _ q33) (hts _ q34) rfl (by rw [hml]; exact hl.1) rfl dX1_init_1 (Nat.le_of_ble_eq_true rfl) (Nat.le_of_ble_eq_true rfl) ?_
  refine W.eq (g2 := F0 m 4 ls []) rfl ?_
  refine lv_aload_n hx hb dX1_init_4 rfl (hc_g hl rfl) ?_
  refine lv_sipush (v := nI 256) hx hb dX1_init_5 (by decide) ?_
  refine va_newa (atype := .int) (ty := .int) (n := nI 256) (N' := 256) (a0 := (256, .inl (fun _ => 0))) hx hb (hts _ q69) rfl hK hP hD hS hA (hc_arrI 256) (nI_pos (by decide)) (nI_clamp (by decide)) (by rw [hc_cbI]; omega) (Nat.le_of_ble_eq_true rfl) (Nat.le_of_ble_eq_true rfl) dX1_init_8 (fun q1 c1 H hK hP hD hS => ?_)
  refine W.widen (k := 1) (n := 256) (Nat.le_of_ble_eq_true rfl) (Nat.le_of_ble_eq_true rfl) ?_
  have hK : va_K D vwCl [(c1, .int)] s := hK
  have hP : va_P D vwCl [(h0, .inr (0, [.null, .null, .null, .null, .null, .int 0, .int 0, .int 0, .int 0, .int 0, .int 0])), (q1, .inl (c1, 256, .inl (fun _ => 0)))] H := hP
  have hD : va_D A [(h0, .inr (0, [.null, .null, .null, .null, .null, .int 0, .int 0, .int 0, .int 0, .int 0, .int 0])), (q1, .inl (c1, 256, .inl (fun _ => 0)))] := hD
  refine va_putF (D := D) (ci := 0) (v := .ref q1) (ty := .array .int) (C := RX1) (T := TX1) (N := 11) hx hb hts in_X1 tyX1 tyX1_ok nmX1 hown hK hP hD hS 0 rfl rfl 0 (by decide) (hts _ q35) (fun _ h9 => h9) rfl hin rfl (by decide +kernel) rfl rfl (Nat.le_of_ble_eq_true rfl) dX1_init_10 (fun H locs hP hD hS => ?_)
  have hP : va_P D vwCl [(h0, .inr (0, [.ref q1, .null, .null, .null, .null, .int 0, .int 0, .int 0, .int 0, .int 0, .int 0])), (q1, .inl (c1, 256, .inl (fun _ => 0)))] H := hP
  have hD : va_D A [(h0, .inr (0, [.ref q1, .null, .null, .null, .null, .int 0, .int 0, .int 0, .int 0, .int 0, .int 0])), (q1, .inl (c1, 256, .inl (fun _ => 0)))] := hD
  refine lv_aload_n hx hb dX1_init_13 rfl (hc_g hl rfl) ?_
  refine lv_bipush (v := nI 26) hx hb dX1_init_14 (by decide) ?_
  refine va_newa (atype := .int) (ty := .int) (n := nI 26) (N' := 26) (a0 := (26, .inl (fun _ => 0))) hx hb (hts _ q69) rfl hK hP hD hS hA (hc_arrI 26) (nI_pos (by decide)) (nI_clamp (by decide)) (by rw [hc_cbI]; omega) (Nat.le_of_ble_eq_true rfl) (Nat.le_of_ble_eq_true rfl) dX1_init_16 (fun q2 c2 H hK hP hD hS => ?_)
  refine W.widen (k := 2) (n := 282) (Nat.le_of_ble_eq_true rfl) (Nat.le_of_ble_eq_true rfl) ?_
  have hK : va_K D vwCl [(c1, .int), (c2, .int)] s := hK
  have hP : va_P D vwCl [(h0, .inr (0, [.ref q1, .null, .null, .null, .null, .int 0, .int 0, .int 0, .int 0, .int 0, .int 0])), (q1, .inl (c1, 256, .inl (fun _ => 0))), (q2, .inl (c2, 26, .inl (fun _ => 0)))] H := hP
  have hD : va_D A [(h0, .inr (0, [.ref q1, .null, .null, .null, .null, .int 0, .int 0, .int 0, .int 0, .int 0, .int 0])), (q1, .inl (c1, 256, .inl (fun _ => 0))), (q2, .inl (c2, 26, .inl (fun _ => 0)))] := hD
  refine va_putF (D := D) (ci := 0) (v := .ref q2) (ty := .array .int) (C := RX1) (T := TX1) (N := 11) hx hb hts in_X1 tyX1 tyX1_ok nmX1 hown hK hP hD hS 0 rfl rfl 1 (by decide) (hts _ q36) (fun _ h9 => h9) rfl hin rfl (by decide +kernel) rfl rfl (Nat.le_of_ble_eq_true rfl) dX1_init_18 (fun H locs hP hD hS => ?_)
  have hP : va_P D vwCl [(h0, .inr (0, [.ref q1, .ref q2, .null, .null, .null, .int 0, .int 0, .int 0, .int 0, .int 0, .int 0])), (q1, .inl (c1, 256, .inl (fun _ => 0))), (q2, .inl (c2, 26, .inl (fun _ => 0)))] H := hP
  have hD : va_D A [(h0, .inr (0, [.ref q1, .ref q2, .null, .null, .null, .int 0, .int 0, .int 0, .int 0, .int 0, .int 0])), (q1, .inl (c1, 256, .inl (fun _ => 0))), (q2, .inl (c2, 26, .inl (fun _ => 0)))] := hD
  refine lv_aload_n hx hb dX1_init_21 rfl (hc_g hl rfl) ?_
  refine lv_bipush (v := nI 26) hx hb dX1_init_22 (by decide) ?_
  refine va_newa (atype := .boolean) (ty := .boolean) (n := nI 26) (N' := 26) (a0 := (26, .inl (fun _ => 0))) hx hb (hts _ q70) rfl hK hP hD hS hA (hc_arrZ 26) (nI_pos (by decide)) (nI_clamp (by decide)) (by rw [hc_cbZ]; omega) (Nat.le_of_ble_eq_true rfl) (Nat.le_of_ble_eq_true rfl) dX1_init_24 (fun q3 c3 H hK hP hD hS => ?_)
  refine W.widen (k := 3) (n := 308) (Nat.le_of_ble_eq_true rfl) (Nat.le_of_ble_eq_true rfl) ?_
  have hK : va_K D vwCl [(c1, .int), (c2, .int), (c3, .boolean)] s := hK
  have hP : va_P D vwCl [(h0, .inr (0, [.ref q1, .ref q2, .null, .null, .null, .int 0, .int 0, .int 0, .int 0, .int 0, .int 0])), (q1, .inl (c1, 256, .inl (fun _ => 0))), (q2, .inl (c2, 26, .inl (fun _ => 0))), (q3, .inl (c3, 26, .inl (fun _ => 0)))] H := hP
  have hD : va_D A [(h0, .inr (0, [.ref q1, .ref q2, .null, .null, .null, .int 0, .int 0, .int 0, .int 0, .int 0, .int 0])), (q1, .inl (c1, 256, .inl (fun _ => 0))), (q2, .inl (c2, 26, .inl (fun _ => 0))), (q3, .inl (c3, 26, .inl (fun _ => 0)))] := hD
  refine va_putF (D := D) (ci := 0) (v := .ref q3) (ty := .array .boolean) (C := RX1) (T := TX1) (N := 11) hx hb hts in_X1 tyX1 tyX1_ok nmX1 hown hK hP hD hS 0 rfl rfl 2 (by decide) (hts _ q37) (fun _ h9 => h9) rfl hin rfl (by decide +kernel) rfl rfl (Nat.le_of_ble_eq_true rfl) dX1_init_26 (fun H locs hP hD hS => ?_)
  have hP : va_P D vwCl [(h0, .inr (0, [.ref q1, .ref q2, .ref q3, .null, .null, .int 0, .int 0, .int 0, .int 0, .int 0, .int 0])), (q1, .inl (c1, 256, .inl (fun _ => 0))), (q2, .inl (c2, 26, .inl (fun _ => 0))), (q3, .inl (c3, 26, .inl (fun _ => 0)))] H := hP
  have hD : va_D A [(h0, .inr (0, [.ref q1, .ref q2, .ref q3, .null, .null, .int 0, .int 0, .int 0, .int 0, .int 0, .int 0])), (q1, .inl (c1, 256, .inl (fun _ => 0))), (q2, .inl (c2, 26, .inl (fun _ => 0))), (q3, .inl (c3, 26, .inl (fun _ => 0)))] := hD
  refine lv_aload_n hx hb dX1_init_29 rfl (hc_g hl rfl) ?_
  refine lv_bipush (v := nI 26) hx hb dX1_init_30 (by decide) ?_
  refine va_newa (atype := .int) (ty := .int) (n := nI 26) (N' := 26) (a0 := (26, .inl (fun _ => 0))) hx hb (hts _ q69) rfl hK hP hD hS hA (hc_arrI 26) (nI_pos (by decide)) (nI_clamp (by decide)) (by rw [hc_cbI]; omega) (Nat.le_of_ble_eq_true rfl) (Nat.le_of_ble_eq_true rfl) dX1_init_32 (fun q4 c4 H hK hP hD hS => ?_)
  refine W.widen (k := 4) (n := 334) (Nat.le_of_ble_eq_true rfl) (Nat.le_of_ble_eq_true rfl) ?_
  have hK : va_K D vwCl [(c1, .int), (c2, .int), (c3, .boolean), (c4, .int)] s := hK
  have hP : va_P D vwCl [(h0, .inr (0, [.ref q1, .ref q2, .ref q3, .null, .null, .int 0, .int 0, .int 0, .int 0, .int 0, .int 0])), (q1, .inl (c1, 256, .inl (fun _ => 0))), (q2, .inl (c2, 26, .inl (fun _ => 0))), (q3, .inl (c3, 26, .inl (fun _ => 0))), (q4, .inl (c4, 26, .inl (fun _ => 0)))] H := hP
  have hD : va_D A [(h0, .inr (0, [.ref q1, .ref q2, .ref q3, .null, .null, .int 0, .int 0, .int 0, .int 0, .int 0, .int 0])), (q1, .inl (c1, 256, .inl (fun _ => 0))), (q2, .inl (c2, 26, .inl (fun _ => 0))), (q3, .inl (c3, 26, .inl (fun _ => 0))), (q4, .inl (c4, 26, .inl (fun _ => 0)))] := hD
  refine va_putF (D := D) (ci := 0) (v := .ref q4) (ty := .array .int) (C := RX1) (T := TX1) (N := 11) hx hb hts in_X1 tyX1 tyX1_ok nmX1 hown hK hP hD hS 0 rfl rfl 3 (by decide) (hts _ q38) (fun _ h9 => h9) rfl hin rfl (by decide +kernel) rfl rfl (Nat.le_of_ble_eq_true rfl) dX1_init_34 (fun H locs hP hD hS => ?_)
  have hP : va_P D vwCl [(h0, .inr (0, [.ref q1, .ref q2, .ref q3, .ref q4, .null, .int 0, .int 0, .int 0, .int 0, .int 0, .int 0])), (q1, .inl (c1, 256, .inl (fun _ => 0))), (q2, .inl (c2, 26, .inl (fun _ => 0))), (q3, .inl (c3, 26, .inl (fun _ => 0))), (q4, .inl (c4, 26, .inl (fun _ => 0)))] H := hP
  have hD : va_D A [(h0, .inr (0, [.ref q1, .ref q2, .ref q3, .ref q4, .null, .int 0, .int 0, .int 0, .int 0, .int 0, .int 0])), (q1, .inl (c1, 256, .inl (fun _ => 0))), (q2, .inl (c2, 26, .inl (fun _ => 0))), (q3, .inl (c3, 26, .inl (fun _ => 0))), (q4, .inl (c4, 26, .inl (fun _ => 0)))] := hD
  refine lv_aload_n hx hb dX1_init_37 rfl (hc_g hl rfl) ?_
  refine lv_bipush (v := nI 104) hx hb dX1_init_38 (by decide) ?_
  refine va_newa (atype := .int) (ty := .int) (n := nI 104) (N' := 104) (a0 := (104, .inl (fun _ => 0))) hx hb (hts _ q69) rfl hK hP hD hS hA (hc_arrI 104) (nI_pos (by decide)) (nI_clamp (by decide)) (by rw [hc_cbI]; omega) (Nat.le_of_ble_eq_true rfl) (Nat.le_of_ble_eq_true rfl) dX1_init_40 (fun q5 c5 H hK hP hD hS => ?_)
  refine W.widen (k := 5) (n := 438) (Nat.le_of_ble_eq_true rfl) (Nat.le_of_ble_eq_true rfl) ?_
  have hK : va_K D vwCl [(c1, .int), (c2, .int), (c3, .boolean), (c4, .int), (c5, .int)] s := hK
  have hP : va_P D vwCl [(h0, .inr (0, [.ref q1, .ref q2, .ref q3, .ref q4, .null, .int 0, .int 0, .int 0, .int 0, .int 0, .int 0])), (q1, .inl (c1, 256, .inl (fun _ => 0))), (q2, .inl (c2, 26, .inl (fun _ => 0))), (q3, .inl (c3, 26, .inl (fun _ => 0))), (q4, .inl (c4, 26, .inl (fun _ => 0))), (q5, .inl (c5, 104, .inl (fun _ => 0)))] H := hP
  have hD : va_D A [(h0, .inr (0, [.ref q1, .ref q2, .ref q3, .ref q4, .null, .int 0, .int 0, .int 0, .int 0, .int 0, .int 0])), (q1, .inl (c1, 256, .inl (fun _ => 0))), (q2, .inl (c2, 26, .inl (fun _ => 0))), (q3, .inl (c3, 26, .inl (fun _ => 0))), (q4, .inl (c4, 26, .inl (fun _ => 0))), (q5, .inl (c5, 104, .inl (fun _ => 0)))] := hD
  refine va_putF (D := D) (ci := 0) (v := .ref q5) (ty := .array .int) (C := RX1) (T := TX1) (N := 11) hx hb hts in_X1 tyX1 tyX1_ok nmX1 hown hK hP hD hS 0 rfl rfl 4 (by decide) (hts _ q39) (fun _ h9 => h9) rfl hin rfl (by decide +kernel) rfl rfl (Nat.le_of_ble_eq_true rfl) dX1_init_42 (fun H locs hP hD hS => ?_)
  have hP : va_P D vwCl [(h0, .inr (0, [.ref q1, .ref q2, .ref q3, .ref q4, .ref q5, .int 0, .int 0, .int 0, .int 0, .int 0, .int 0])), (q1, .inl (c1, 256, .inl (fun _ => 0))), (q2, .inl (c2, 26, .inl (fun _ => 0))), (q3, .inl (c3, 26, .inl (fun _ => 0))), (q4, .inl (c4, 26, .inl (fun _ => 0))), (q5, .inl (c5, 104, .inl (fun _ => 0)))] H := hP
  have hD : va_D A [(h0, .inr (0, [.ref q1, .ref q2, .ref q3, .ref q4, .ref q5, .int 0, .int 0, .int 0, .int 0, .int 0, .int 0])), (q1, .inl (c1, 256, .inl (fun _ => 0))), (q2, .inl (c2, 26, .inl (fun _ => 0))), (q3, .inl (c3, 26, .inl (fun _ => 0))), (q4, .inl (c4, 26, .inl (fun _ => 0))), (q5, .inl (c5, 104, .inl (fun _ => 0)))] := hD
  obtain ⟨fs, hfs, efs⟩ := pk_andE x (m := nI 1) 1 (by decide)
  refine lv_aload_n hx hb dX1_init_45 rfl (hc_g hl rfl) ?_
  refine lv_iload_n hx hb dX1_init_46 rfl (hc_g hl rfl) ?_
  refine lv_iconst (v := nI 1) hx hb dX1_init_47 (by decide) ?_
  refine lv_iand hx hb dX1_init_48 ?_
  refine hc_re (nI fs) (efs) ?_
  refine va_putF (D := D) (ci := 0) (v := .int (nI fs)) (ty := .int) (C := RX1) (T := TX1) (N := 11) hx hb hts in_X1 tyX1 tyX1_ok nmX1 hown hK hP hD hS 0 rfl rfl 6 (by decide) (hts _ q41) (fun _ h9 => h9) rfl hin rfl (by decide +kernel) rfl rfl (Nat.le_of_ble_eq_true rfl) dX1_init_49 (fun H locs hP hD hS => ?_)
  have hP : va_P D vwCl [(h0, .inr (0, [.ref q1, .ref q2, .ref q3, .ref q4, .ref q5, .int 0, .int (nI fs), .int 0, .int 0, .int 0, .int 0])), (q1, .inl (c1, 256, .inl (fun _ => 0))), (q2, .inl (c2, 26, .inl (fun _ => 0))), (q3, .inl (c3, 26, .inl (fun _ => 0))), (q4, .inl (c4, 26, .inl (fun _ => 0))), (q5, .inl (c5, 104, .inl (fun _ => 0)))] H := hP
  have hD : va_D A [(h0, .inr (0, [.ref q1, .ref q2, .ref q3, .ref q4, .ref q5, .int 0, .int (nI fs), .int 0, .int 0, .int 0, .int 0])), (q1, .inl (c1, 256, .inl (fun _ => 0))), (q2, .inl (c2, 26, .inl (fun _ => 0))), (q3, .inl (c3, 26, .inl (fun _ => 0))), (q4, .inl (c4, 26, .inl (fun _ => 0))), (q5, .inl (c5, 104, .inl (fun _ => 0)))] := hD
  obtain ⟨ss, hss, ess⟩ := pk_andE (x >>> (nI 1 &&& 31)) (m := nI 1) 1 (by decide)
  refine lv_aload_n hx hb dX1_init_52 rfl (hc_g hl rfl) ?_
  refine lv_iload_n hx hb dX1_init_53 rfl (hc_g hl rfl) ?_
  refine lv_iconst (v := nI 1) hx hb dX1_init_54 (by decide) ?_
  refine lv_ishr hx hb dX1_init_55 ?_
  refine lv_iconst (v := nI 1) hx hb dX1_init_56 (by decide) ?_
  refine lv_iand hx hb dX1_init_57 ?_
  refine hc_re (nI ss) (ess) ?_
  refine va_putF (D := D) (ci := 0) (v := .int (nI ss)) (ty := .int) (C := RX1) (T := TX1) (N := 11) hx hb hts in_X1 tyX1 tyX1_ok nmX1 hown hK hP hD hS 0 rfl rfl 7 (by decide) (hts _ q42) (fun _ h9 => h9) rfl hin rfl (by decide +kernel) rfl rfl (Nat.le_of_ble_eq_true rfl) dX1_init_58 (fun H locs hP hD hS => ?_)
  have hP : va_P D vwCl [(h0, .inr (0, [.ref q1, .ref q2, .ref q3, .ref q4, .ref q5, .int 0, .int (nI fs), .int (nI ss), .int 0, .int 0, .int 0])), (q1, .inl (c1, 256, .inl (fun _ => 0))), (q2, .inl (c2, 26, .inl (fun _ => 0))), (q3, .inl (c3, 26, .inl (fun _ => 0))), (q4, .inl (c4, 26, .inl (fun _ => 0))), (q5, .inl (c5, 104, .inl (fun _ => 0)))] H := hP
  have hD : va_D A [(h0, .inr (0, [.ref q1, .ref q2, .ref q3, .ref q4, .ref q5, .int 0, .int (nI fs), .int (nI ss), .int 0, .int 0, .int 0])), (q1, .inl (c1, 256, .inl (fun _ => 0))), (q2, .inl (c2, 26, .inl (fun _ => 0))), (q3, .inl (c3, 26, .inl (fun _ => 0))), (q4, .inl (c4, 26, .inl (fun _ => 0))), (q5, .inl (c5, 104, .inl (fun _ => 0)))] := hD
  have tail : ∀ la : Int32, (la = 0 ∨ la = 1) → W p l e ({ frames := 1, cells := 5, slots := 438, locals := 12 }) s m (([.ref h0, .int x] : List Value).toArray) below meth c H locs 5 438 (MQ below (va_Qv (fun _ : Unit => True) (fun _ t => xNew D h0 s.heap.size t) A) (([.ref h0, .int x] : List Value).toArray) s 5 438 A) (F0 m 76 ls [.int la, .ref h0]) := by
    intro la hla
    refine va_putF (D := D) (ci := 0) (v := .int la) (ty := .boolean) (C := RX1) (T := TX1) (N := 11) hx hb hts in_X1 tyX1 tyX1_ok nmX1 hown hK hP hD hS 0 rfl rfl 8 (by decide) (hts _ q43) (fun _ h9 => h9) rfl hin rfl (by decide +kernel) (by rcases hla with z | z <;> rw [z] <;> rfl) (by rcases hla with z | z <;> rw [z] <;> rfl) (Nat.le_of_ble_eq_true rfl) dX1_init_76 (fun H locs hP hD hS => ?_)
    have hP : va_P D vwCl [(h0, .inr (0, [.ref q1, .ref q2, .ref q3, .ref q4, .ref q5, .int 0, .int (nI fs), .int (nI ss), .int la, .int 0, .int 0])), (q1, .inl (c1, 256, .inl (fun _ => 0))), (q2, .inl (c2, 26, .inl (fun _ => 0))), (q3, .inl (c3, 26, .inl (fun _ => 0))), (q4, .inl (c4, 26, .inl (fun _ => 0))), (q5, .inl (c5, 104, .inl (fun _ => 0)))] H := hP
    have hD : va_D A [(h0, .inr (0, [.ref q1, .ref q2, .ref q3, .ref q4, .ref q5, .int 0, .int (nI fs), .int (nI ss), .int la, .int 0, .int 0])), (q1, .inl (c1, 256, .inl (fun _ => 0))), (q2, .inl (c2, 26, .inl (fun _ => 0))), (q3, .inl (c3, 26, .inl (fun _ => 0))), (q4, .inl (c4, 26, .inl (fun _ => 0))), (q5, .inl (c5, 104, .inl (fun _ => 0)))] := hD
    refine lv_aload_n hx hb dX1_init_79 rfl (hc_g hl rfl) ?_
    refine lv_iconst (v := -1) hx hb dX1_init_80 (by decide) ?_
    refine va_put (D := D) (ci := 0) (v := .int (-1)) (ty := .int) (C := RX1) (T := TX1) (N := 11) hx hb hts in_X1 tyX1 tyX1_ok nmX1 hown hK hP hD hS 0 rfl rfl 9 (by decide) (hts _ q44) (fun _ h9 => h9) rfl (by decide +kernel) rfl rfl (Nat.le_of_ble_eq_true rfl) dX1_init_81 (fun H locs hP hD hS => ?_)
    have hP : va_P D vwCl [(h0, .inr (0, [.ref q1, .ref q2, .ref q3, .ref q4, .ref q5, .int 0, .int (nI fs), .int (nI ss), .int la, .int (-1), .int 0])), (q1, .inl (c1, 256, .inl (fun _ => 0))), (q2, .inl (c2, 26, .inl (fun _ => 0))), (q3, .inl (c3, 26, .inl (fun _ => 0))), (q4, .inl (c4, 26, .inl (fun _ => 0))), (q5, .inl (c5, 104, .inl (fun _ => 0)))] H := hP
    have hD : va_D A [(h0, .inr (0, [.ref q1, .ref q2, .ref q3, .ref q4, .ref q5, .int 0, .int (nI fs), .int (nI ss), .int la, .int (-1), .int 0])), (q1, .inl (c1, 256, .inl (fun _ => 0))), (q2, .inl (c2, 26, .inl (fun _ => 0))), (q3, .inl (c3, 26, .inl (fun _ => 0))), (q4, .inl (c4, 26, .inl (fun _ => 0))), (q5, .inl (c5, 104, .inl (fun _ => 0)))] := hD
    refine lv_aload_n hx hb dX1_init_84 rfl (hc_g hl rfl) ?_
    refine lv_iconst (v := -1) hx hb dX1_init_85 (by decide) ?_
    refine va_put (D := D) (ci := 0) (v := .int (-1)) (ty := .int) (C := RX1) (T := TX1) (N := 11) hx hb hts in_X1 tyX1 tyX1_ok nmX1 hown hK hP hD hS 0 rfl rfl 10 (by decide) (hts _ q45) (fun _ h9 => h9) rfl (by decide +kernel) rfl rfl (Nat.le_of_ble_eq_true rfl) dX1_init_86 (fun H locs hP hD hS => ?_)
    have hP : va_P D vwCl [(h0, .inr (0, [.ref q1, .ref q2, .ref q3, .ref q4, .ref q5, .int 0, .int (nI fs), .int (nI ss), .int la, .int (-1), .int (-1)])), (q1, .inl (c1, 256, .inl (fun _ => 0))), (q2, .inl (c2, 26, .inl (fun _ => 0))), (q3, .inl (c3, 26, .inl (fun _ => 0))), (q4, .inl (c4, 26, .inl (fun _ => 0))), (q5, .inl (c5, 104, .inl (fun _ => 0)))] H := hP
    have hD : va_D A [(h0, .inr (0, [.ref q1, .ref q2, .ref q3, .ref q4, .ref q5, .int 0, .int (nI fs), .int (nI ss), .int la, .int (-1), .int (-1)])), (q1, .inl (c1, 256, .inl (fun _ => 0))), (q2, .inl (c2, 26, .inl (fun _ => 0))), (q3, .inl (c3, 26, .inl (fun _ => 0))), (q4, .inl (c4, 26, .inl (fun _ => 0))), (q5, .inl (c5, 104, .inl (fun _ => 0)))] := hD
    refine lv_iconst (v := nI 0) hx hb dX1_init_89 (by decide) ?_
    refine lv_istore_n (lv' := [(2, .int (nI 0)), (0, .ref h0), (1, .int x)]) hx hb dX1_init_90 rfl hl (by decide) rfl (fun ls hl => ?_)
    refine xinit_tail (ad := adOf h0 q1 q2 q3 q4 q5) (cA := cOf c1 c2 c3 c4 c5) (x := x) ⟨⟨hx, hb, hml, hown, hts⟩, hK, hA⟩ ⟨_, _, _, hP, hD, hS⟩ hl (fun lin H locs ls hq I => ?_)
    obtain ⟨usd, clk, lm, hP, hD, hS⟩ := I
    exact W.vret hx hb hr (fun t ht hW => ⟨⟨(), rfl, trivial, adOf h0 q1 q2 q3 q4 q5, cOf c1 c2 c3 c4 c5, fs, ss, la, lin, usd, clk, lm, rfl, hfs, hss, hq, by rw [ht]; exact hP, va_K.moved hW.alike hK, by rw [hAe]; exact hD⟩, hS.F ht⟩) hS.2.2 dX1_init_110
  refine lv_aload_n hx hb dX1_init_61 rfl (hc_g hl rfl) ?_
  refine lv_iload_n hx hb dX1_init_62 rfl (hc_g hl rfl) ?_
  refine lv_iconst (v := nI 2) hx hb dX1_init_63 (by decide) ?_
  refine lv_ishr hx hb dX1_init_64 ?_
  refine lv_iconst (v := nI 1) hx hb dX1_init_65 (by decide) ?_
  refine lv_iand hx hb dX1_init_66 ?_
  refine lv_iconst (v := nI 1) hx hb dX1_init_67 (by decide) ?_
  refine lv_icmp_ne (tgt := 75) hx hb dX1_init_68 (by decide) (fun c1 => ?_) (fun c1 => ?_)
  · refine lv_iconst (v := 0) hx hb dX1_init_75 (by decide) ?_
    exact tail 0 (Or.inl rfl)
  · refine lv_iconst (v := 1) hx hb dX1_init_71 (by decide) ?_
    refine lv_goto (tgt := 76) hx hb dX1_init_72 (by decide) ?_
    exact tail 1 (Or.inr rfl)
set_option maxHeartbeats 4000000 in
theorem my_init (l : Launch) (D : va_G) (h0 sz : Nat) (x : Int32) : Met l yX2_init (ws_ yX2_init cX2_init 2 none) ({ frames := 1, cells := 1, slots := 256, locals := 12 }) (va_Pc [.ref h0, .int x] (fun U => U.heap.size = sz ∧ va_P D vwCl [(h0, .inr (1, yF0))] U.heap ∧ va_K D vwCl [] U ∧ va_D (fun _ => True) [(h0, .inr (1, yF0))])) (va_Qv (fun _ : Unit => True) (fun _ t => yNew D h0 sz t) (va_A [(h0, .inr (1, yF0))] sz)) 1 256 (va_A [(h0, .inr (1, yF0))] sz) := by
  refine Met.ofW (cc := cX2_init) (maxL := 2) (ret := none) (by decide) rfl ?_
  intro p e s m args below meth c s₁ B hml hv
  obtain ⟨rfl, hsz, hP, hK, hD0⟩ := hv
  have hx := B.exec
  have hb := B.bytes
  have hr := B.returns
  have hts := atoms_spec (ws := ws_ yX2_init cX2_init 2 none) B.pre
  have hts : ∀ w ∈ lw_all, w.before _ s = true := fun w h => hts w (List.mem_cons_of_mem _ h)
  have hown : s.vm.findClass RX2 = some m.cls := findClass_of_methodNamed B.named
  have hlocks := B.notSynchronized
  have hin : meth.name = "<init>" := (name_of_methodNamed B.named B.method).1
  subst hsz
  have hD := hD0.self (sz := s.heap.size)
  generalize hAe : va_A [(h0, .inr (1, yF0))] s.heap.size = A at hD ⊢
  have hA : ∀ q : Nat, s.heap.size ≤ q → A q := fun q h => by rw [← hAe]; exact Or.inr h
  have hS : va_S A s.heap s.heap [] := va_S.rf
  have hP : va_P D vwCl [(h0, .inr (1, yF0))] s.heap := hP
  have hl := lv_entry ([.ref h0, .int x]) (n := 2) (Nat.le_of_ble_eq_true rfl)
  rw [lg_entry_eq]
  generalize (lg_sl ([.ref h0, .int x]) ++ List.replicate (2 - (lg_sl ([.ref h0, .int x])).length) Slot.unset).toArray = ls at hl ⊢
  have hl : lv_has ls 2 [(0, .ref h0), (1, .int x)] := hl
  refine lv_aload_n hx hb dX2_init_0 rfl (hc_g hl rfl) ?_
  refine W.objInit hx hb hown (hts _ q226) (hts _ q33) (hts _ q34) rfl (by rw [hml]; exact hl.1) rfl dX2_init_1 (Nat.le_of_ble_eq_true rfl) (Nat.le_of_ble_eq_true rfl) ?_
  refine W.eq (g2 := F0 m 4 ls []) rfl ?_
  refine lv_aload_n hx hb dX2_init_4 rfl (hc_g hl rfl) ?_
  refine lv_sipush (v := nI 256) hx hb dX2_init_5 (by decide) ?_
  refine va_newa (atype := .int) (ty := .int) (n := nI 256) (N' := 256) (a0 := (256, .inl (fun _ => 0))) hx hb (hts _ q69) rfl hK hP hD hS hA (hc_arrI 256) (nI_pos (by decide)) (nI_clamp (by decide)) (by rw [hc_cbI]; omega) (Nat.le_of_ble_eq_true rfl) (Nat.le_of_ble_eq_true rfl) dX2_init_8 (fun q1 c1 H hK hP hD hS => ?_)
  refine W.widen (k := 1) (n := 256) (Nat.le_of_ble_eq_true rfl) (Nat.le_of_ble_eq_true rfl) ?_
  have hK : va_K D vwCl [(c1, .int)] s := hK
  have hP : va_P D vwCl [(h0, .inr (1, [.null, .int 0])), (q1, .inl (c1, 256, .inl (fun _ => 0)))] H := hP
  have hD : va_D A [(h0, .inr (1, [.null, .int 0])), (q1, .inl (c1, 256, .inl (fun _ => 0)))] := hD
  refine va_putF (D := D) (ci := 1) (v := .ref q1) (ty := .array .int) (C := RX2) (T := TX2) (N := 2) hx hb hts in_X2 tyX2 tyX2_ok nmX2 hown hK hP hD hS 0 rfl rfl 0 (by decide) (hts _ q227) (fun _ h9 => h9) rfl hin rfl (by decide +kernel) rfl rfl (Nat.le_of_ble_eq_true rfl) dX2_init_10 (fun H locs hP hD hS => ?_)
  have hP : va_P D vwCl [(h0, .inr (1, [.ref q1, .int 0])), (q1, .inl (c1, 256, .inl (fun _ => 0)))] H := hP
  have hD : va_D A [(h0, .inr (1, [.ref q1, .int 0])), (q1, .inl (c1, 256, .inl (fun _ => 0)))] := hD
  refine lv_aload_n hx hb dX2_init_13 rfl (hc_g hl rfl) ?_
  refine lv_iconst (v := -1) hx hb dX2_init_14 (by decide) ?_
  refine va_put (D := D) (ci := 1) (v := .int (-1)) (ty := .int) (C := RX2) (T := TX2) (N := 2) hx hb hts in_X2 tyX2 tyX2_ok nmX2 hown hK hP hD hS 0 rfl rfl 1 (by decide) (hts _ q228) (fun _ h9 => h9) rfl (by decide +kernel) rfl rfl (Nat.le_of_ble_eq_true rfl) dX2_init_15 (fun H locs hP hD hS => ?_)
  have hP : va_P D vwCl [(h0, .inr (1, [.ref q1, .int (-1)])), (q1, .inl (c1, 256, .inl (fun _ => 0)))] H := hP
  have hD : va_D A [(h0, .inr (1, [.ref q1, .int (-1)])), (q1, .inl (c1, 256, .inl (fun _ => 0)))] := hD
  exact W.vret hx hb hr (fun t ht hW => ⟨⟨(), rfl, trivial, adOf h0 q1 q1 q1 q1 q1, fun _ => c1, rfl, by rw [ht]; exact hP, va_K.moved hW.alike hK, by rw [hAe]; exact hD⟩, hS.F ht⟩) hS.2.2 dX2_init_18
set_option maxHeartbeats 4000000 in
/-- cell(script, 0): some int -/
theorem mz_cell (l : Launch) {b L : Nat} {xs : Nat → Int32} (hL : L < 2 ^ 31) : Met l yX0_cell (ws_ yX0_cell cX0_cell 2 (some .int)) (rmF 0 0) (va_Pc [.ref b, .int (nI 0)] (fun U => va_X b L xs U U.heap)) (va_Qi (fun (_ : Int32) (_ : Unit) => True) (fun _ _ => True) (fun _ => False)) 0 0 (fun _ => False) := by
  refine Met.ofW (cc := cX0_cell) (maxL := 2) (ret := some .int) (by decide) rfl ?_
  intro p e s m args below meth c s₁ B hml hv
  obtain ⟨rfl, hX⟩ := hv
  have hx := B.exec
  have hb := B.bytes
  have hr := B.returns
  have hlocks := B.notSynchronized
  have hbl : b < s.heap.size := by
    obtain ⟨scr, h1, -⟩ := hX
    exact (Array.getElem?_eq_some_iff.mp h1).1
  have hS : va_S (fun _ => False) s.heap s.heap [] := va_S.rf
  have hl := lv_entry ([.ref b, .int (nI 0)]) (n := 2) (Nat.le_of_ble_eq_true rfl)
  rw [lg_entry_eq]
  generalize (lg_sl ([.ref b, .int (nI 0)]) ++ List.replicate (2 - (lg_sl ([.ref b, .int (nI 0)])).length) Slot.unset).toArray = ls at hl ⊢
  have hl : lv_has ls 2 [(0, .ref b), (1, .int (nI 0))] := hl
  refine lv_iload_n hx hb dX0_cell_0 rfl (hc_g hl rfl) ?_
  refine lv_aload_n hx hb dX0_cell_1 rfl (hc_g hl rfl) ?_
  refine va_slen hx hb hX hbl (fun h => h) hS dX0_cell_2 ?_
  refine lv_icmp_ge (tgt := 12) hx hb dX0_cell_3 (by decide) (fun c1 => ?_) (fun c1 => ?_)
  · refine lv_iconst (v := 0) hx hb dX0_cell_12 (by decide) ?_
    exact W.iret (v := 0) hx hb hr (fun t ht hW => ⟨⟨_, (), rfl, trivial, trivial⟩, hS.F ht⟩) hS.2.2 dX0_cell_13
  · have h0 : 0 < L := Nat.lt_of_not_le (fun h => c1 (nI_le h (by omega)))
    refine lv_aload_n hx hb dX0_cell_6 rfl (hc_g hl rfl) ?_
    refine lv_iload_n hx hb dX0_cell_7 rfl (hc_g hl rfl) ?_
    refine va_sld hx hb hX hbl (fun h => h) hS (vp_in_nI h0 hL) dX0_cell_8 ?_
    refine lv_goto (tgt := 13) hx hb dX0_cell_9 (by decide) ?_
    exact W.iret hx hb hr (fun t ht hW => ⟨⟨_, (), rfl, trivial, trivial⟩, hS.F ht⟩) hS.2.2 dX0_cell_13
end
section
set_option maxRecDepth 100000
theorem zx_load {R : Room} {s : State} {args : Array Value} {rm : Room} {mc ms : Nat} (ht : ∀ w ∈ lw_all, w.before args s = true) (hc : rm.cells = mc) (hs : rm.slots = ms) (hR : rm.frames + 1 ≤ R.frames ∧ 8 + (2 + 11) + rm.locals ≤ R.locals) : CallW R s args RX0 RX1 21 yX1_load cX1_load 2 (some .int) (ws_ yX1_load cX1_load 2 (some .int)) rm mc ms 1 := cwV 1 ht (lw_V q71 q72 q73 q25 q74) rfl hc hs (by decide +kernel) hR
theorem zy_load {R : Room} {s : State} {args : Array Value} {rm : Room} {mc ms : Nat} (ht : ∀ w ∈ lw_all, w.before args s = true) (hc : rm.cells = mc) (hs : rm.slots = ms) (hR : rm.frames + 1 ≤ R.frames ∧ 8 + (2 + 11) + rm.locals ≤ R.locals) : CallW R s args RX0 RX2 25 yX2_load cX2_load 2 (some .int) (ws_ yX2_load cX2_load 2 (some .int)) rm mc ms 1 := cwV 1 ht (lw_V q234 q235 q236 q26 q237) rfl hc hs (by decide +kernel) hR
theorem zx_store {R : Room} {s : State} {args : Array Value} {rm : Room} {mc ms : Nat} (ht : ∀ w ∈ lw_all, w.before args s = true) (hc : rm.cells = mc) (hs : rm.slots = ms) (hR : rm.frames + 1 ≤ R.frames ∧ 8 + (3 + 11) + rm.locals ≤ R.locals) : CallW R s args RX0 RX1 26 yX1_store cX1_store 3 (some .int) (ws_ yX1_store cX1_store 3 (some .int)) rm mc ms 2 := cwV 2 ht (lw_V q142 q143 q144 q25 q145) rfl hc hs (by decide +kernel) hR
theorem zy_store {R : Room} {s : State} {args : Array Value} {rm : Room} {mc ms : Nat} (ht : ∀ w ∈ lw_all, w.before args s = true) (hc : rm.cells = mc) (hs : rm.slots = ms) (hR : rm.frames + 1 ≤ R.frames ∧ 8 + (3 + 11) + rm.locals ≤ R.locals) : CallW R s args RX0 RX2 30 yX2_store cX2_store 3 (some .int) (ws_ yX2_store cX2_store 3 (some .int)) rm mc ms 2 := cwV 2 ht (lw_V q242 q243 q244 q26 q245) rfl hc hs (by decide +kernel) hR
theorem zx_loadByte {R : Room} {s : State} {args : Array Value} {rm : Room} {mc ms : Nat} (ht : ∀ w ∈ lw_all, w.before args s = true) (hc : rm.cells = mc) (hs : rm.slots = ms) (hR : rm.frames + 1 ≤ R.frames ∧ 8 + (5 + 11) + rm.locals ≤ R.locals) : CallW R s args RX0 RX1 31 yX1_loadByte cX1_loadByte 5 (some .int) (ws_ yX1_loadByte cX1_loadByte 5 (some .int)) rm mc ms 2 := cwV 2 ht (lw_V q150 q151 q152 q25 q153) rfl hc hs (by decide +kernel) hR
theorem zy_loadByte {R : Room} {s : State} {args : Array Value} {rm : Room} {mc ms : Nat} (ht : ∀ w ∈ lw_all, w.before args s = true) (hc : rm.cells = mc) (hs : rm.slots = ms) (hR : rm.frames + 1 ≤ R.frames ∧ 8 + (4 + 11) + rm.locals ≤ R.locals) : CallW R s args RX0 RX2 35 yX2_loadByte cX2_loadByte 4 (some .int) (ws_ yX2_loadByte cX2_loadByte 4 (some .int)) rm mc ms 2 := cwV 2 ht (lw_V q250 q251 q252 q26 q253) rfl hc hs (by decide +kernel) hR
theorem zx_storeByte {R : Room} {s : State} {args : Array Value} {rm : Room} {mc ms : Nat} (ht : ∀ w ∈ lw_all, w.before args s = true) (hc : rm.cells = mc) (hs : rm.slots = ms) (hR : rm.frames + 1 ≤ R.frames ∧ 8 + (6 + 11) + rm.locals ≤ R.locals) : CallW R s args RX0 RX1 36 yX1_storeByte cX1_storeByte 6 (some .int) (ws_ yX1_storeByte cX1_storeByte 6 (some .int)) rm mc ms 2 := cwV 2 ht (lw_V q154 q155 q156 q25 q157) rfl hc hs (by decide +kernel) hR
theorem zy_storeByte {R : Room} {s : State} {args : Array Value} {rm : Room} {mc ms : Nat} (ht : ∀ w ∈ lw_all, w.before args s = true) (hc : rm.cells = mc) (hs : rm.slots = ms) (hR : rm.frames + 1 ≤ R.frames ∧ 8 + (5 + 11) + rm.locals ≤ R.locals) : CallW R s args RX0 RX2 39 yX2_storeByte cX2_storeByte 5 (some .int) (ws_ yX2_storeByte cX2_storeByte 5 (some .int)) rm mc ms 2 := cwV 2 ht (lw_V q258 q259 q260 q26 q261) rfl hc hs (by decide +kernel) hR
theorem zx_swap {R : Room} {s : State} {args : Array Value} {rm : Room} {mc ms : Nat} (ht : ∀ w ∈ lw_all, w.before args s = true) (hc : rm.cells = mc) (hs : rm.slots = ms) (hR : rm.frames + 1 ≤ R.frames ∧ 8 + (4 + 11) + rm.locals ≤ R.locals) : CallW R s args RX0 RX1 40 yX1_swap cX1_swap 4 (some .int) (ws_ yX1_swap cX1_swap 4 (some .int)) rm mc ms 2 := cwV 2 ht (lw_V q158 q159 q160 q25 q161) rfl hc hs (by decide +kernel) hR
theorem zy_swap {R : Room} {s : State} {args : Array Value} {rm : Room} {mc ms : Nat} (ht : ∀ w ∈ lw_all, w.before args s = true) (hc : rm.cells = mc) (hs : rm.slots = ms) (hR : rm.frames + 1 ≤ R.frames ∧ 8 + (4 + 11) + rm.locals ≤ R.locals) : CallW R s args RX0 RX2 43 yX2_swap cX2_swap 4 (some .int) (ws_ yX2_swap cX2_swap 4 (some .int)) rm mc ms 2 := cwV 2 ht (lw_V q262 q263 q264 q26 q265) rfl hc hs (by decide +kernel) hR
theorem zx_addTo {R : Room} {s : State} {args : Array Value} {rm : Room} {mc ms : Nat} (ht : ∀ w ∈ lw_all, w.before args s = true) (hc : rm.cells = mc) (hs : rm.slots = ms) (hR : rm.frames + 1 ≤ R.frames ∧ 8 + (4 + 11) + rm.locals ≤ R.locals) : CallW R s args RX0 RX1 44 yX1_addTo cX1_addTo 4 (some .int) (ws_ yX1_addTo cX1_addTo 4 (some .int)) rm mc ms 2 := cwV 2 ht (lw_V q162 q163 q164 q25 q165) rfl hc hs (by decide +kernel) hR
theorem zy_addTo {R : Room} {s : State} {args : Array Value} {rm : Room} {mc ms : Nat} (ht : ∀ w ∈ lw_all, w.before args s = true) (hc : rm.cells = mc) (hs : rm.slots = ms) (hR : rm.frames + 1 ≤ R.frames ∧ 8 + (3 + 11) + rm.locals ≤ R.locals) : CallW R s args RX0 RX2 47 yX2_addTo cX2_addTo 3 (some .int) (ws_ yX2_addTo cX2_addTo 3 (some .int)) rm mc ms 2 := cwV 2 ht (lw_V q268 q269 q270 q26 q271) rfl hc hs (by decide +kernel) hR
theorem zx_loadReserved {R : Room} {s : State} {args : Array Value} {rm : Room} {mc ms : Nat} (ht : ∀ w ∈ lw_all, w.before args s = true) (hc : rm.cells = mc) (hs : rm.slots = ms) (hR : rm.frames + 1 ≤ R.frames ∧ 8 + (2 + 11) + rm.locals ≤ R.locals) : CallW R s args RX0 RX1 48 yX1_loadReserved cX1_loadReserved 2 (some .int) (ws_ yX1_loadReserved cX1_loadReserved 2 (some .int)) rm mc ms 1 := cwV 1 ht (lw_V q166 q167 q168 q25 q169) rfl hc hs (by decide +kernel) hR
theorem zy_loadReserved {R : Room} {s : State} {args : Array Value} {rm : Room} {mc ms : Nat} (ht : ∀ w ∈ lw_all, w.before args s = true) (hc : rm.cells = mc) (hs : rm.slots = ms) (hR : rm.frames + 1 ≤ R.frames ∧ 8 + (2 + 11) + rm.locals ≤ R.locals) : CallW R s args RX0 RX2 51 yX2_loadReserved cX2_loadReserved 2 (some .int) (ws_ yX2_loadReserved cX2_loadReserved 2 (some .int)) rm mc ms 1 := cwV 1 ht (lw_V q272 q273 q274 q26 q275) rfl hc hs (by decide +kernel) hR
theorem zx_storeConditional {R : Room} {s : State} {args : Array Value} {rm : Room} {mc ms : Nat} (ht : ∀ w ∈ lw_all, w.before args s = true) (hc : rm.cells = mc) (hs : rm.slots = ms) (hR : rm.frames + 1 ≤ R.frames ∧ 8 + (4 + 11) + rm.locals ≤ R.locals) : CallW R s args RX0 RX1 52 yX1_storeConditional cX1_storeConditional 4 (some .int) (ws_ yX1_storeConditional cX1_storeConditional 4 (some .int)) rm mc ms 2 := cwV 2 ht (lw_V q170 q171 q172 q25 q173) rfl hc hs (by decide +kernel) hR
theorem zy_storeConditional {R : Room} {s : State} {args : Array Value} {rm : Room} {mc ms : Nat} (ht : ∀ w ∈ lw_all, w.before args s = true) (hc : rm.cells = mc) (hs : rm.slots = ms) (hR : rm.frames + 1 ≤ R.frames ∧ 8 + (4 + 11) + rm.locals ≤ R.locals) : CallW R s args RX0 RX2 55 yX2_storeConditional cX2_storeConditional 4 (some .int) (ws_ yX2_storeConditional cX2_storeConditional 4 (some .int)) rm mc ms 2 := cwV 2 ht (lw_V q276 q277 q278 q26 q279) rfl hc hs (by decide +kernel) hR
theorem zx_copy {R : Room} {s : State} {args : Array Value} {rm : Room} {mc ms : Nat} (ht : ∀ w ∈ lw_all, w.before args s = true) (hc : rm.cells = mc) (hs : rm.slots = ms) (hR : rm.frames + 1 ≤ R.frames ∧ 8 + (6 + 11) + rm.locals ≤ R.locals) : CallW R s args RX0 RX1 56 yX1_copy cX1_copy 6 (some .int) (ws_ yX1_copy cX1_copy 6 (some .int)) rm mc ms 3 := cwV 3 ht (lw_V q174 q175 q176 q25 q177) rfl hc hs (by decide +kernel) hR
theorem zy_copy {R : Room} {s : State} {args : Array Value} {rm : Room} {mc ms : Nat} (ht : ∀ w ∈ lw_all, w.before args s = true) (hc : rm.cells = mc) (hs : rm.slots = ms) (hR : rm.frames + 1 ≤ R.frames ∧ 8 + (5 + 11) + rm.locals ≤ R.locals) : CallW R s args RX0 RX2 60 yX2_copy cX2_copy 5 (some .int) (ws_ yX2_copy cX2_copy 5 (some .int)) rm mc ms 3 := cwV 3 ht (lw_V q280 q281 q282 q26 q283) rfl hc hs (by decide +kernel) hR
theorem zx_deviceRead {R : Room} {s : State} {args : Array Value} {rm : Room} {mc ms : Nat} (ht : ∀ w ∈ lw_all, w.before args s = true) (hc : rm.cells = mc) (hs : rm.slots = ms) (hR : rm.frames + 1 ≤ R.frames ∧ 8 + (2 + 11) + rm.locals ≤ R.locals) : CallW R s args RX0 RX1 61 yX1_deviceRead cX1_deviceRead 2 (some .int) (ws_ yX1_deviceRead cX1_deviceRead 2 (some .int)) rm mc ms 1 := cwV 1 ht (lw_V q178 q179 q180 q25 q181) rfl hc hs (by decide +kernel) hR
theorem zy_deviceRead {R : Room} {s : State} {args : Array Value} {rm : Room} {mc ms : Nat} (ht : ∀ w ∈ lw_all, w.before args s = true) (hc : rm.cells = mc) (hs : rm.slots = ms) (hR : rm.frames + 1 ≤ R.frames ∧ 8 + (2 + 11) + rm.locals ≤ R.locals) : CallW R s args RX0 RX2 64 yX2_deviceRead cX2_deviceRead 2 (some .int) (ws_ yX2_deviceRead cX2_deviceRead 2 (some .int)) rm mc ms 1 := cwV 1 ht (lw_V q284 q285 q286 q26 q287) rfl hc hs (by decide +kernel) hR
theorem zx_deviceWrite {R : Room} {s : State} {args : Array Value} {rm : Room} {mc ms : Nat} (ht : ∀ w ∈ lw_all, w.before args s = true) (hc : rm.cells = mc) (hs : rm.slots = ms) (hR : rm.frames + 1 ≤ R.frames ∧ 8 + (3 + 11) + rm.locals ≤ R.locals) : CallW R s args RX0 RX1 65 yX1_deviceWrite cX1_deviceWrite 3 (some .int) (ws_ yX1_deviceWrite cX1_deviceWrite 3 (some .int)) rm mc ms 2 := cwV 2 ht (lw_V q190 q191 q192 q25 q193) rfl hc hs (by decide +kernel) hR
theorem zy_deviceWrite {R : Room} {s : State} {args : Array Value} {rm : Room} {mc ms : Nat} (ht : ∀ w ∈ lw_all, w.before args s = true) (hc : rm.cells = mc) (hs : rm.slots = ms) (hR : rm.frames + 1 ≤ R.frames ∧ 8 + (3 + 11) + rm.locals ≤ R.locals) : CallW R s args RX0 RX2 68 yX2_deviceWrite cX2_deviceWrite 3 (some .int) (ws_ yX2_deviceWrite cX2_deviceWrite 3 (some .int)) rm mc ms 2 := cwV 2 ht (lw_V q288 q289 q290 q26 q291) rfl hc hs (by decide +kernel) hR
theorem zx_deviceFill {R : Room} {s : State} {args : Array Value} {rm : Room} {mc ms : Nat} (ht : ∀ w ∈ lw_all, w.before args s = true) (hc : rm.cells = mc) (hs : rm.slots = ms) (hR : rm.frames + 1 ≤ R.frames ∧ 8 + (5 + 11) + rm.locals ≤ R.locals) : CallW R s args RX0 RX1 69 yX1_deviceFill cX1_deviceFill 5 (some .int) (ws_ yX1_deviceFill cX1_deviceFill 5 (some .int)) rm mc ms 3 := cwV 3 ht (lw_V q198 q199 q200 q25 q201) rfl hc hs (by decide +kernel) hR
theorem zy_deviceFill {R : Room} {s : State} {args : Array Value} {rm : Room} {mc ms : Nat} (ht : ∀ w ∈ lw_all, w.before args s = true) (hc : rm.cells = mc) (hs : rm.slots = ms) (hR : rm.frames + 1 ≤ R.frames ∧ 8 + (5 + 11) + rm.locals ≤ R.locals) : CallW R s args RX0 RX2 72 yX2_deviceFill cX2_deviceFill 5 (some .int) (ws_ yX2_deviceFill cX2_deviceFill 5 (some .int)) rm mc ms 3 := cwV 3 ht (lw_V q292 q293 q294 q26 q295) rfl hc hs (by decide +kernel) hR
theorem zx_hint {R : Room} {s : State} {args : Array Value} {rm : Room} {mc ms : Nat} (ht : ∀ w ∈ lw_all, w.before args s = true) (hc : rm.cells = mc) (hs : rm.slots = ms) (hR : rm.frames + 1 ≤ R.frames ∧ 8 + (5 + 11) + rm.locals ≤ R.locals) : CallW R s args RX0 RX1 73 yX1_hint cX1_hint 5 (some .int) (ws_ yX1_hint cX1_hint 5 (some .int)) rm mc ms 2 := cwV 2 ht (lw_V q202 q203 q204 q25 q205) rfl hc hs (by decide +kernel) hR
theorem zy_hint {R : Room} {s : State} {args : Array Value} {rm : Room} {mc ms : Nat} (ht : ∀ w ∈ lw_all, w.before args s = true) (hc : rm.cells = mc) (hs : rm.slots = ms) (hR : rm.frames + 1 ≤ R.frames ∧ 8 + (3 + 11) + rm.locals ≤ R.locals) : CallW R s args RX0 RX2 76 yX2_hint cX2_hint 3 (some .int) (ws_ yX2_hint cX2_hint 3 (some .int)) rm mc ms 2 := cwV 2 ht (lw_V q296 q297 q298 q26 q299) rfl hc hs (by decide +kernel) hR
theorem zx_sum {R : Room} {s : State} {args : Array Value} {rm : Room} {mc ms : Nat} (ht : ∀ w ∈ lw_all, w.before args s = true) (hc : rm.cells = mc) (hs : rm.slots = ms) (hR : rm.frames + 1 ≤ R.frames ∧ 8 + (3 + 11) + rm.locals ≤ R.locals) : CallW R s args RX0 RX1 77 yX1_sum cX1_sum 3 (some .int) (ws_ yX1_sum cX1_sum 3 (some .int)) rm mc ms 0 := cwV 0 ht (lw_V q210 q211 q212 q25 q213) rfl hc hs (by decide +kernel) hR
theorem zy_sum {R : Room} {s : State} {args : Array Value} {rm : Room} {mc ms : Nat} (ht : ∀ w ∈ lw_all, w.before args s = true) (hc : rm.cells = mc) (hs : rm.slots = ms) (hR : rm.frames + 1 ≤ R.frames ∧ 8 + (3 + 11) + rm.locals ≤ R.locals) : CallW R s args RX0 RX2 81 yX2_sum cX2_sum 3 (some .int) (ws_ yX2_sum cX2_sum 3 (some .int)) rm mc ms 0 := cwV 0 ht (lw_V q300 q301 q302 q26 q303) rfl hc hs (by decide +kernel) hR
theorem zx_reserved {R : Room} {s : State} {args : Array Value} {rm : Room} {mc ms : Nat} (ht : ∀ w ∈ lw_all, w.before args s = true) (hc : rm.cells = mc) (hs : rm.slots = ms) (hR : rm.frames + 1 ≤ R.frames ∧ 8 + (1 + 11) + rm.locals ≤ R.locals) : CallW R s args RX0 RX1 82 yX1_reserved cX1_reserved 1 (some .int) (ws_ yX1_reserved cX1_reserved 1 (some .int)) rm mc ms 0 := cwV 0 ht (lw_V q214 q215 q216 q25 q217) rfl hc hs (by decide +kernel) hR
theorem zy_reserved {R : Room} {s : State} {args : Array Value} {rm : Room} {mc ms : Nat} (ht : ∀ w ∈ lw_all, w.before args s = true) (hc : rm.cells = mc) (hs : rm.slots = ms) (hR : rm.frames + 1 ≤ R.frames ∧ 8 + (1 + 11) + rm.locals ≤ R.locals) : CallW R s args RX0 RX2 85 yX2_reserved cX2_reserved 1 (some .int) (ws_ yX2_reserved cX2_reserved 1 (some .int)) rm mc ms 0 := cwV 0 ht (lw_V q304 q305 q306 q26 q307) rfl hc hs (by decide +kernel) hR
/-! the law's world: the caches' picture and the Model's, side by side -/
def lwJ (D : va_G) (A : Nat → Prop) (H0 : Heap) (ad : Nat → Nat) (cA : Nat → ClassId) (fs ss : Nat) (la : Int32) (bd : Nat → Nat) (dA : Nat → ClassId) (M : Nat → Int32) (rs : Int32) (N : Nat → Int32) (ks : Int32) (H : Heap) (locs : List Loc) : Prop :=
  ∃ (mem lin chg wrd usd : Nat → Int32) (clk lm : Int32), hInv fs ss M mem lin chg wrd ∧ va_P D vwCl (xW ad cA fs ss la mem lin chg usd wrd clk lm rs ++ yW bd dA N ks) H ∧ va_D A (xW ad cA fs ss la mem lin chg usd wrd clk lm rs ++ yW bd dA N ks) ∧ va_S A H0 H locs
theorem xA_va {ad : Nat → Nat} {sz : Nat} {cA : Nat → ClassId} {fs ss : Nat} {la : Int32} {mem lin chg usd wrd : Nat → Int32} {clk lm rs : Int32} {q : Nat} (h : xA ad sz q) : va_A (xW ad cA fs ss la mem lin chg usd wrd clk lm rs) sz q := by
  rcases h with ⟨k, hk, rfl⟩ | h
  · match k, hk with
    | 0, _ => exact Or.inl ⟨0, _, rfl⟩
    | 1, _ => exact Or.inl ⟨1, _, rfl⟩
    | 2, _ => exact Or.inl ⟨2, _, rfl⟩
    | 3, _ => exact Or.inl ⟨3, _, rfl⟩
    | 4, _ => exact Or.inl ⟨4, _, rfl⟩
    | 5, _ => exact Or.inl ⟨5, _, rfl⟩
    | k + 6, hk => omega
  · exact Or.inr h
theorem yA_va {ad : Nat → Nat} {sz : Nat} {cA : Nat → ClassId} {mem : Nat → Int32} {rs : Int32} {q : Nat} (h : yA ad sz q) : va_A (yW ad cA mem rs) sz q := by
  rcases h with ⟨k, hk, rfl⟩ | h
  · match k, hk with
    | 0, _ => exact Or.inl ⟨0, _, rfl⟩
    | 1, _ => exact Or.inl ⟨1, _, rfl⟩
    | k + 2, hk => omega
  · exact Or.inr h
section LAWC
variable {p : Program} {l : Launch} {e : Env} {R : Room} {s : State} {m : MethodId} {args : Array Value} {below : List Frame} {meth : Method} {c : Code} {H : Heap} {locs : List Loc} {cells slots : Nat} {Q : State → Prop}
variable {cc : ByteArray} {pc : Nat} {ls : Array Slot} {rest : List Value}
variable {nL : Nat} {D : va_G} {A : Nat → Prop} {H0 : Heap} {ad : Nat → Nat} {cA : Nat → ClassId} {fs ss : Nat} {la : Int32} {bd : Nat → Nat} {dA : Nat → ClassId} {M N : Nat → Int32} {rs ks : Int32}
variable {y : MethodName} {b : ByteArray} {Ly n index : Nat} {rm : Room} {st0 : List Value}
set_option maxHeartbeats 4000000 in
theorem z_callX (As : List Value) {T : sT} (S : CallFix p m c cc nL s args lw_all RX0) (hK : va_K D vwCl (xT cA ++ yT dA) s) (hA : ∀ q, H0.size ≤ q → A q) (J : lwJ D A H0 ad cA fs ss la bd dA M rs N ks H locs) (hl : ls.size = nL) (hM : ∀ mem lin chg wrd, hInv fs ss M mem lin chg wrd → xMi l y b Ly .int rm D ad cA fs ss la mem lin chg wrd rs (.ref (ad 0) :: As) (xPost fs ss T)) (cw : CallW R s args RX0 RX1 index y b Ly (some .int) (ws_ y b Ly (some .int)) rm 0 0 n) (hn : As.length = n) (hst : st0 = As.reverse ++ .ref (ad 0) :: rest) (hrm : (rest.map fun v => v.category).sum ≤ 8) (hdg : decode cc pc = .ok (.invokevirtual index, 3)) (hf : cells ≤ R.cells ∧ slots ≤ R.slots)
    (kk : ∀ (H' : Heap) (locs' : List Loc), lwJ D A H0 ad cA fs ss la bd dA T.2.1 T.2.2 N ks H' locs' → W p l e R s m args below meth c H' locs' cells slots Q (F0 m (pc + 3) ls (.int T.1 :: rest))) : W p l e R s m args below meth c H locs cells slots Q (F0 m pc ls st0) := by
  subst hst
  obtain ⟨mem, lin, chg, wrd, usd, clk, lm, hI, hP, hD, hS⟩ := J
  have hPc := hP.sub (ws' := xW ad cA fs ss la mem lin chg usd wrd clk lm rs) [0, 1, 2, 3, 4, 5] rfl
  have hDc := hD.sub (ws' := xW ad cA fs ss la mem lin chg usd wrd clk lm rs) [0, 1, 2, 3, 4, 5] (by decide) rfl
  have hKc := hK.sub (tys' := xT cA) [0, 1, 2, 3, 4] rfl
  have hF := xA_free (sz := H.size) hDc (fun q h => hA q (Nat.le_trans hS.1 h))
  refine va_calli (va_runV (As := As) (rest := rest) S (hM mem lin chg wrd hI H.size) cw ⟨xPre_blind, va_recv hKc hPc (ci := 0) (q0 := 0) rfl rfl, fun U hU hW => ⟨rfl, by rw [hU], usd, clk, lm, by rw [hU]; exact hPc, va_K.moved hW.alike hKc, hDc.weaken (fun _ _ _ _ => trivial)⟩⟩ rfl hn hl rfl (lv_room hrm) hdg hf) hS (fun q _ h => hF q h) hF (fun r u t H1 locs1 ht hvm hp hB hz hk hS1 => ?_)
  obtain ⟨mem2, lin2, chg2, wrd2, rs2⟩ := u
  obtain ⟨usd2, clk2, lm2, hP2, hK2, hD2⟩ := hB
  obtain ⟨e1, hI2, e3⟩ := hp
  dsimp only at e1 e3 hI2 hP2 hD2
  rw [ht, e3] at hP2
  rw [e3] at hD2
  rw [e1]
  obtain ⟨hP3, hD3⟩ := va_join (wc := xW ad cA fs ss la mem lin chg usd wrd clk lm rs) (wr := yW bd dA N ks) (w1 := xW ad cA fs ss la mem2 lin2 chg2 usd2 wrd2 clk2 lm2 T.2.2) hP hD [0, 1, 2, 3, 4, 5] [6, 7] rfl rfl (by decide) (by decide) (fun q h1 h2 => hk q h1 (fun z => h2 (xA_va z))) (va_free hD hS hA [0, 1, 2, 3, 4, 5] rfl) hP2 (hD2.weaken (fun _ _ _ h => xA_va h))
  exact kk H1 locs1 ⟨mem2, lin2, chg2, wrd2, usd2, clk2, lm2, hI2, hP3.sub [2, 3, 4, 5, 6, 7, 0, 1] rfl, hD3.sub [2, 3, 4, 5, 6, 7, 0, 1] (by decide) rfl, hS1⟩
set_option maxHeartbeats 4000000 in
theorem z_callY (As : List Value) {T : sT} (S : CallFix p m c cc nL s args lw_all RX0) (hK : va_K D vwCl (xT cA ++ yT dA) s) (hA : ∀ q, H0.size ≤ q → A q) (J : lwJ D A H0 ad cA fs ss la bd dA M rs N ks H locs) (hl : ls.size = nL) (hM : yMi l y b Ly .int rm D bd dA N ks (.ref (bd 0) :: As) (yPost T)) (cw : CallW R s args RX0 RX2 index y b Ly (some .int) (ws_ y b Ly (some .int)) rm 0 0 n) (hn : As.length = n) (hst : st0 = As.reverse ++ .ref (bd 0) :: rest) (hrm : (rest.map fun v => v.category).sum ≤ 8) (hdg : decode cc pc = .ok (.invokevirtual index, 3)) (hf : cells ≤ R.cells ∧ slots ≤ R.slots)
    (kk : ∀ (H' : Heap) (locs' : List Loc), lwJ D A H0 ad cA fs ss la bd dA M rs T.2.1 T.2.2 H' locs' → W p l e R s m args below meth c H' locs' cells slots Q (F0 m (pc + 3) ls (.int T.1 :: rest))) : W p l e R s m args below meth c H locs cells slots Q (F0 m pc ls st0) := by
  subst hst
  obtain ⟨mem, lin, chg, wrd, usd, clk, lm, hI, hP, hD, hS⟩ := J
  have hPc := hP.sub (ws' := yW bd dA N ks) [6, 7] rfl
  have hDc := hD.sub (ws' := yW bd dA N ks) [6, 7] (by decide) rfl
  have hKc := hK.sub (tys' := yT dA) [5] rfl
  have hF := yA_free (sz := H.size) hDc (fun q h => hA q (Nat.le_trans hS.1 h))
  refine va_calli (va_runV (As := As) (rest := rest) S (hM H.size) cw ⟨yPre_blind, va_recv hKc hPc (ci := 1) (q0 := 0) rfl rfl, fun U hU hW => ⟨rfl, by rw [hU], by rw [hU]; exact hPc, va_K.moved hW.alike hKc, hDc.weaken (fun _ _ _ _ => trivial)⟩⟩ rfl hn hl rfl (lv_room hrm) hdg hf) hS (fun q _ h => hF q h) hF (fun r u t H1 locs1 ht hvm hp hB hz hk hS1 => ?_)
  obtain ⟨mem2, rs2⟩ := u
  obtain ⟨hP2, hK2, hD2⟩ := hB
  obtain ⟨e1, e2, e3⟩ := hp
  dsimp only at e1 e2 e3 hP2 hD2
  rw [ht, e2, e3] at hP2
  rw [e2, e3] at hD2
  rw [e1]
  obtain ⟨hP3, hD3⟩ := va_join (wc := yW bd dA N ks) (wr := xW ad cA fs ss la mem lin chg usd wrd clk lm rs) (w1 := yW bd dA T.2.1 T.2.2) hP hD [6, 7] [0, 1, 2, 3, 4, 5] rfl rfl (by decide) (by decide) (fun q h1 h2 => hk q h1 (fun z => h2 (yA_va z))) (va_free hD hS hA [6, 7] rfl) hP2 (hD2.weaken (fun _ _ _ h => yA_va h))
  exact kk H1 locs1 ⟨mem, lin, chg, wrd, usd, clk, lm, hI, hP3, hD3, hS1⟩
theorem z_sld (hx : p.tables.exec = Jvm.exec) (hb : c.code = cc) {b L : Nat} {xs : Nat → Int32} (hX : va_X b L xs s H0) (hbl : b < H0.size) (hbA : ¬ A b) (hL : L < 2 ^ 31) (J : lwJ D A H0 ad cA fs ss la bd dA M rs N ks H locs) {j : Nat} (hj : j < L) (hdg : decode cc pc = .ok (.iaload, 1)) (kk : W p l e R s m args below meth c H locs cells slots Q (F0 m (pc + 1) ls (.int (xs j) :: rest))) : W p l e R s m args below meth c H locs cells slots Q (F0 m pc ls (.int (nI j) :: .ref b :: rest)) := by
  obtain ⟨mem, lin, chg, wrd, usd, clk, lm, hI, hP, hD, hS⟩ := J
  refine va_sld hx hb hX hbl hbA hS (vp_in_nI hj hL) hdg ?_
  rw [nI_clamp (by omega)]
  exact kk
theorem z_slen (hx : p.tables.exec = Jvm.exec) (hb : c.code = cc) {b L : Nat} {xs : Nat → Int32} (hX : va_X b L xs s H0) (hbl : b < H0.size) (hbA : ¬ A b) (J : lwJ D A H0 ad cA fs ss la bd dA M rs N ks H locs) (hdg : decode cc pc = .ok (.arraylength, 1)) (kk : W p l e R s m args below meth c H locs cells slots Q (F0 m (pc + 1) ls (.int (nI L) :: rest))) : W p l e R s m args below meth c H locs cells slots Q (F0 m pc ls (.ref b :: rest)) := by
  obtain ⟨mem, lin, chg, wrd, usd, clk, lm, hI, hP, hD, hS⟩ := J
  exact va_slen hx hb hX hbl hbA hS hdg kk
end LAWC
theorem hz_gt {L i : Nat} (hL : L ≤ 257) (hi : i ≤ 300) : nI L - nI 4 < nI i ↔ L < i + 4 := by
  rw [Int32.lt_iff_toInt_lt, pk_sub_toInt (by omega) (by omega), nI_toInt (by omega)]
  omega
end
section
set_option maxRecDepth 100000
/-! THE CLAIM OUT OF ONE WALK OF THE LAW'S BODY. Your part is whole_start (and what it stands on); all else here is the same for every law, but numbers. -/
def R_law : String := "HiddenCachesLaw"
def lw_P (b : Addr) (xs : List Int32) (args : Array Value) (s : State) : Prop := args = #[.ref b] ∧ s.IntsAt b xs ∧ xs.length ≤ 257 ∧ (Jvm.Cond.and given_1 narrow_1).before args s = true
def lw_Q (_ : Array Value) (s : State) (o : Outcome) (t : State) : Prop := o = .returned (some (.int 1)) ∧ Framed s o t [] 600000 7290000
def lw_Z (below : List Frame) (a : Array Value) (s : State) : State → Prop := fun t => ∃ o, t.status = .running ∧ Ended t below o ∧ lw_Q a s o t
/-- the law's own end, with 1 on the stack, nothing written that was there before, its room as the claim has it -/
theorem lw_ret {p : Program} {l : Launch} {e : Env} {s : State} {m : MethodId} {below : List Frame} {meth : Method} {c : Code} {b : Nat} (hx : p.tables.exec = Jvm.exec) (hb : c.code = code) (hr : meth.sig.returnType = ret) (hlocks : meth.locks = false) {pc : Nat} {H : Heap} {ls : Array Slot} (hdg : decode code pc = .ok (.ireturn, 1)) : W p l e room_1 s m #[Value.ref b] below meth c H [] 600000 7290000 (lw_Z below #[Value.ref b] s) (F0 m pc ls [.int 1]) := by
  intro T hT X
  obtain ⟨fs, hret, hrun, hended, hW, hframe⟩ := X.leave (v := some (.int 1)) (hlocks := hlocks) (fun h => by rw [hr] at h; cases h)
  have hmeth' : T.vm.method? m = some meth := X.method'
  refine ⟨T.setFrames fs, ?_, .returned (some (.int 1)), hrun, hended, rfl, ⟨_, rfl⟩, hW, hframe⟩
  jvm_step X.here [X.here.top, hx, hb, hdg, hmeth', hr, ret, narrow_b1]
  (try refine ⟨rfl, ?_⟩); (try refine ⟨rfl, ?_⟩)
  first | (intro acts; rw [hret _ acts rfl rfl rfl]) | rw [hret _ _ rfl rfl rfl]
  exact Steps.refl _
/-- what holds at the law's entry: the machine, the code, the tables' words (any of lw_tbl by 'hts w (by decide +kernel)'), the script of L ints xs at the cell b, what the Statement gives of the start (any of its parts by flat_of_before) -/
def lw_At (p : Program) (s : State) (m : MethodId) (meth : Method) (c : Code) (b L : Nat) (xs : Nat → Int32) : Prop :=
  p.tables.exec = Jvm.exec ∧ c.code = code ∧ meth.sig.returnType = ret ∧ c.maxLocals = 4 ∧ s.vm.findClass R_law = some m.cls ∧ (∀ w ∈ lw_tbl, w.before #[Value.ref b] s = true) ∧ va_X b L xs s s.heap ∧ b < s.heap.size ∧ meth.locks = false ∧ (Jvm.Cond.and given_1 narrow_1).before #[Value.ref b] s = true
set_option maxHeartbeats 4000000 in
/-- the law's loop: both worlds hold the same memory and the same reserved word -/
theorem z_loop {p : Program} {l : Launch} {e : Env} {s : State} {m : MethodId} {below : List Frame} {meth : Method} {c : Code} {b L : Nat} {xs : Nat → Int32} (hL : L ≤ 257) (hx : p.tables.exec = Jvm.exec) (hb : c.code = cL_law) (hr : meth.sig.returnType = ret) (hlocks : meth.locks = false) (hml : c.maxLocals = 4) (hown : s.vm.findClass RX0 = some m.cls) (hts : ∀ w ∈ lw_all, w.before #[Value.ref b] s = true) (hX : va_X b L xs s s.heap) (hbl : b < s.heap.size)
    {D : va_G} {ad : Nat → Nat} {cA : Nat → ClassId} {fs ss : Nat} {la : Int32} {bd : Nat → Nat} {dA : Nat → ClassId} (hfs : fs < 2) (hss : ss < 2) (hK : va_K D vwCl (xT cA ++ yT dA) s) {M : Nat → Int32} {rs : Int32} {H : Heap} {locs : List Loc} {ls : Array Slot} (J : lwJ D (fun q => s.heap.size ≤ q) s.heap ad cA fs ss la bd dA M rs M rs H locs) (hl : lv_has ls 4 [(3, .int (nI 1)), (0, .ref b), (1, .ref (ad 0)), (2, .ref (bd 0))]) :
    W p l e room_1 s m #[Value.ref b] below meth c H locs 8 707 (lw_Z below #[Value.ref b] s) (F0 m 28 ls []) := by
  have S : CallFix p m c cL_law 4 s #[Value.ref b] lw_all RX0 := ⟨hx, hb, hml, hown, hts⟩
  have hbA : ¬ s.heap.size ≤ b := by omega
  have hA : ∀ q, s.heap.size ≤ q → s.heap.size ≤ q := fun q h => h
  refine hc_loop (S := Unit) (fun k _ H locs ls => ∃ (M : Nat → Int32) (rs : Int32), lwJ D (fun q => s.heap.size ≤ q) s.heap ad cA fs ss la bd dA M rs M rs H locs ∧ lv_has ls 4 [(3, .int (nI (4 * k + 1))), (0, .ref b), (1, .ref (ad 0)), (2, .ref (bd 0))]) 64 (fun k _ H locs ls hk hI back => ?_) 0 () _ _ _ (Nat.zero_le _) ⟨M, rs, J, hl⟩
  clear J hl
  obtain ⟨M, rs, J, hl⟩ := hI
  refine lv_iload_n hx hb dL_law_28 rfl (hc_g hl rfl) ?_
  refine lv_aload_n hx hb dL_law_29 rfl (hc_g hl rfl) ?_
  refine z_slen hx hb hX hbl hbA J dL_law_30 ?_
  refine lv_iconst (v := nI 4) hx hb dL_law_31 (by decide) ?_
  refine lv_isub hx hb dL_law_32 ?_
  refine lv_icmp_gt (tgt := 583) hx hb dL_law_33 (by decide) (fun c1 => ?_) (fun c1 => ?_)
  · obtain ⟨mem, lin, chg, wrd, usd, clk, lm, hI, hP, hD, hS⟩ := J
    refine lv_iconst (v := 1) hx hb dL_law_583 (by decide) ?_
    refine va_forget (fun q hq => hS.2.2 q hq) ?_
    refine W.widen (k := 600000) (n := 7290000) (by omega) (by omega) ?_
    exact lw_ret hx hb hr hlocks dL_law_584
  · have hkL : 4 * k + 5 ≤ L := by
      rcases Nat.lt_or_ge L (4 * k + 5) with q | q
      · exact absurd ((hz_gt hL (by omega)).mpr (by omega)) c1
      · exact q
    have t577 : ∀ (M' : Nat → Int32) (rs' : Int32) (H : Heap) (locs : List Loc), lwJ D (fun q => s.heap.size ≤ q) s.heap ad cA fs ss la bd dA M' rs' M' rs' H locs → W p l e room_1 s m #[Value.ref b] below meth c H locs 8 707 (lw_Z below #[Value.ref b] s) (F0 m 577 ls []) := by
      intro M' rs' H locs J
      refine lv_iinc (v := nI (4 * (k + 1) + 1)) (lv' := [(3, .int (nI (4 * (k + 1) + 1))), (0, .ref b), (1, .ref (ad 0)), (2, .ref (bd 0))]) hx hb dL_law_577 hl (k := 0) rfl ((nI_add (4 * k + 1) 4).trans (congrArg nI (by omega))) (by decide) rfl (fun ls hl => ?_)
      refine lv_goto (tgt := 28) hx hb dL_law_580 (by decide) ?_
      exact back (by omega) () _ _ _ ⟨M', rs', J, hl⟩
    refine lv_aload_n hx hb dL_law_36 rfl (hc_g hl rfl) ?_
    refine lv_iload_n hx hb dL_law_37 rfl (hc_g hl rfl) ?_
    refine z_sld hx hb hX hbl hbA (by omega) J (by omega) dL_law_38 ?_
    refine lv_bipush (v := nI 15) hx hb dL_law_39 (by decide) ?_
    refine lv_iand hx hb dL_law_41 ?_
    obtain ⟨w, hw, ew⟩ := pk_andE (xs (4 * k + 1)) (m := nI 15) 4 (by decide)
    refine hc_re (nI w) (ew) ?_
    have hw16 : w = 0 ∨ w = 1 ∨ w = 2 ∨ w = 3 ∨ w = 4 ∨ w = 5 ∨ w = 6 ∨ w = 7 ∨ w = 8 ∨ w = 9 ∨ w = 10 ∨ w = 11 ∨ w = 12 ∨ w = 13 ∨ w = 14 ∨ w = 15 := by omega
    rcases hw16 with rfl | rfl | rfl | rfl | rfl | rfl | rfl | rfl | rfl | rfl | rfl | rfl | rfl | rfl | rfl | rfl
    · refine lv_tableIn (off := 74) (tgt := 116) hx hb dL_law_42 (by decide) (by decide) (by decide) (by decide) ?_
      refine lv_aload_n hx hb dL_law_116 rfl (hc_g hl rfl) ?_
      refine lv_aload_n hx hb dL_law_117 rfl (hc_g hl rfl) ?_
      refine lv_iload_n hx hb dL_law_118 rfl (hc_g hl rfl) ?_
      refine lv_iconst (v := nI 1) hx hb dL_law_119 (by decide) ?_
      refine hc_addN hx hb dL_law_120 ?_
      refine z_sld hx hb hX hbl hbA (by omega) J (by omega) dL_law_121 ?_
      refine z_callX [.int (xs ((4 * k + 1) + 1))] (rest := []) S hK hA J hl.1 (fun _ _ _ _ hI => met_load hfs hss hI) (zx_load hts rfl rfl ⟨by decide, by decide⟩) rfl rfl (Nat.le_of_ble_eq_true rfl) dL_law_122 ⟨by decide, by decide⟩ (fun H locs J => ?_)
      refine lv_aload_n hx hb dL_law_125 rfl (hc_g hl rfl) ?_
      refine lv_aload_n hx hb dL_law_126 rfl (hc_g hl rfl) ?_
      refine lv_iload_n hx hb dL_law_127 rfl (hc_g hl rfl) ?_
      refine lv_iconst (v := nI 1) hx hb dL_law_128 (by decide) ?_
      refine hc_addN hx hb dL_law_129 ?_
      refine z_sld hx hb hX hbl hbA (by omega) J (by omega) dL_law_130 ?_
      refine z_callY [.int (xs ((4 * k + 1) + 1))] (rest := [.int (sp_load M rs (xs ((4 * k + 1) + 1))).1]) S hK hA J hl.1 (my_load) (zy_load hts rfl rfl ⟨by decide, by decide⟩) rfl rfl (Nat.le_of_ble_eq_true rfl) dL_law_131 ⟨by decide, by decide⟩ (fun H locs J => ?_)
      refine lv_icmp_eq (tgt := 577) hx hb dL_law_134 (by decide) (fun c9 => ?_) (fun c9 => ?_)
      · exact t577 _ _ _ _ J
      · exact absurd rfl c9
    · refine lv_tableIn (off := 97) (tgt := 139) hx hb dL_law_42 (by decide) (by decide) (by decide) (by decide) ?_
      refine lv_aload_n hx hb dL_law_139 rfl (hc_g hl rfl) ?_
      refine lv_aload_n hx hb dL_law_140 rfl (hc_g hl rfl) ?_
      refine lv_iload_n hx hb dL_law_141 rfl (hc_g hl rfl) ?_
      refine lv_iconst (v := nI 1) hx hb dL_law_142 (by decide) ?_
      refine hc_addN hx hb dL_law_143 ?_
      refine z_sld hx hb hX hbl hbA (by omega) J (by omega) dL_law_144 ?_
      refine lv_aload_n hx hb dL_law_145 rfl (hc_g hl rfl) ?_
      refine lv_iload_n hx hb dL_law_146 rfl (hc_g hl rfl) ?_
      refine lv_iconst (v := nI 2) hx hb dL_law_147 (by decide) ?_
      refine hc_addN hx hb dL_law_148 ?_
      refine z_sld hx hb hX hbl hbA (by omega) J (by omega) dL_law_149 ?_
      refine z_callX [.int (xs ((4 * k + 1) + 1)), .int (xs ((4 * k + 1) + 2))] (rest := []) S hK hA J hl.1 (fun _ _ _ _ hI => met_store hfs hss hI) (zx_store hts rfl rfl ⟨by decide, by decide⟩) rfl rfl (Nat.le_of_ble_eq_true rfl) dL_law_150 ⟨by decide, by decide⟩ (fun H locs J => ?_)
      refine lv_aload_n hx hb dL_law_153 rfl (hc_g hl rfl) ?_
      refine lv_aload_n hx hb dL_law_154 rfl (hc_g hl rfl) ?_
      refine lv_iload_n hx hb dL_law_155 rfl (hc_g hl rfl) ?_
      refine lv_iconst (v := nI 1) hx hb dL_law_156 (by decide) ?_
      refine hc_addN hx hb dL_law_157 ?_
      refine z_sld hx hb hX hbl hbA (by omega) J (by omega) dL_law_158 ?_
      refine lv_aload_n hx hb dL_law_159 rfl (hc_g hl rfl) ?_
      refine lv_iload_n hx hb dL_law_160 rfl (hc_g hl rfl) ?_
      refine lv_iconst (v := nI 2) hx hb dL_law_161 (by decide) ?_
      refine hc_addN hx hb dL_law_162 ?_
      refine z_sld hx hb hX hbl hbA (by omega) J (by omega) dL_law_163 ?_
      refine z_callY [.int (xs ((4 * k + 1) + 1)), .int (xs ((4 * k + 1) + 2))] (rest := [.int (sp_store M rs (xs ((4 * k + 1) + 1)) (xs ((4 * k + 1) + 2))).1]) S hK hA J hl.1 (my_store) (zy_store hts rfl rfl ⟨by decide, by decide⟩) rfl rfl (Nat.le_of_ble_eq_true rfl) dL_law_164 ⟨by decide, by decide⟩ (fun H locs J => ?_)
      refine lv_icmp_eq (tgt := 577) hx hb dL_law_167 (by decide) (fun c9 => ?_) (fun c9 => ?_)
      · exact t577 _ _ _ _ J
      · exact absurd rfl c9
    · refine lv_tableIn (off := 130) (tgt := 172) hx hb dL_law_42 (by decide) (by decide) (by decide) (by decide) ?_
      refine lv_aload_n hx hb dL_law_172 rfl (hc_g hl rfl) ?_
      refine lv_aload_n hx hb dL_law_173 rfl (hc_g hl rfl) ?_
      refine lv_iload_n hx hb dL_law_174 rfl (hc_g hl rfl) ?_
      refine lv_iconst (v := nI 1) hx hb dL_law_175 (by decide) ?_
      refine hc_addN hx hb dL_law_176 ?_
      refine z_sld hx hb hX hbl hbA (by omega) J (by omega) dL_law_177 ?_
      refine lv_aload_n hx hb dL_law_178 rfl (hc_g hl rfl) ?_
      refine lv_iload_n hx hb dL_law_179 rfl (hc_g hl rfl) ?_
      refine lv_iconst (v := nI 2) hx hb dL_law_180 (by decide) ?_
      refine hc_addN hx hb dL_law_181 ?_
      refine z_sld hx hb hX hbl hbA (by omega) J (by omega) dL_law_182 ?_
      refine lv_if_eq (tgt := 190) hx hb dL_law_183 (by decide) (fun c2 => ?_) (fun c2 => ?_)
      · refine lv_iconst (v := nI 0) hx hb dL_law_190 (by decide) ?_
        refine z_callX [.int (xs ((4 * k + 1) + 1)), .int (nI 0)] (rest := []) S hK hA J hl.1 (fun _ _ _ _ hI => met_loadByte hfs hss hI) (zx_loadByte hts rfl rfl ⟨by decide, by decide⟩) rfl rfl (Nat.le_of_ble_eq_true rfl) dL_law_191 ⟨by decide, by decide⟩ (fun H locs J => ?_)
        refine lv_aload_n hx hb dL_law_194 rfl (hc_g hl rfl) ?_
        refine lv_aload_n hx hb dL_law_195 rfl (hc_g hl rfl) ?_
        refine lv_iload_n hx hb dL_law_196 rfl (hc_g hl rfl) ?_
        refine lv_iconst (v := nI 1) hx hb dL_law_197 (by decide) ?_
        refine hc_addN hx hb dL_law_198 ?_
        refine z_sld hx hb hX hbl hbA (by omega) J (by omega) dL_law_199 ?_
        refine lv_aload_n hx hb dL_law_200 rfl (hc_g hl rfl) ?_
        refine lv_iload_n hx hb dL_law_201 rfl (hc_g hl rfl) ?_
        refine lv_iconst (v := nI 2) hx hb dL_law_202 (by decide) ?_
        refine hc_addN hx hb dL_law_203 ?_
        refine z_sld hx hb hX hbl hbA (by omega) J (by omega) dL_law_204 ?_
        refine lv_if_eq (tgt := 212) hx hb dL_law_205 (by decide) (fun c3 => ?_) (fun c3 => ?_)
        · refine lv_iconst (v := nI 0) hx hb dL_law_212 (by decide) ?_
          refine z_callY [.int (xs ((4 * k + 1) + 1)), .int (nI 0)] (rest := [.int (sp_loadByte M rs (xs ((4 * k + 1) + 1)) (nI 0)).1]) S hK hA J hl.1 (my_loadByte) (zy_loadByte hts rfl rfl ⟨by decide, by decide⟩) rfl rfl (Nat.le_of_ble_eq_true rfl) dL_law_213 ⟨by decide, by decide⟩ (fun H locs J => ?_)
          refine lv_icmp_eq (tgt := 577) hx hb dL_law_216 (by decide) (fun c9 => ?_) (fun c9 => ?_)
          · exact t577 _ _ _ _ J
          · exact absurd rfl c9
        · exact absurd c2 c3
      · refine lv_iconst (v := nI 1) hx hb dL_law_186 (by decide) ?_
        refine lv_goto (tgt := 191) hx hb dL_law_187 (by decide) ?_
        refine z_callX [.int (xs ((4 * k + 1) + 1)), .int (nI 1)] (rest := []) S hK hA J hl.1 (fun _ _ _ _ hI => met_loadByte hfs hss hI) (zx_loadByte hts rfl rfl ⟨by decide, by decide⟩) rfl rfl (Nat.le_of_ble_eq_true rfl) dL_law_191 ⟨by decide, by decide⟩ (fun H locs J => ?_)
        refine lv_aload_n hx hb dL_law_194 rfl (hc_g hl rfl) ?_
        refine lv_aload_n hx hb dL_law_195 rfl (hc_g hl rfl) ?_
        refine lv_iload_n hx hb dL_law_196 rfl (hc_g hl rfl) ?_
        refine lv_iconst (v := nI 1) hx hb dL_law_197 (by decide) ?_
        refine hc_addN hx hb dL_law_198 ?_
        refine z_sld hx hb hX hbl hbA (by omega) J (by omega) dL_law_199 ?_
        refine lv_aload_n hx hb dL_law_200 rfl (hc_g hl rfl) ?_
        refine lv_iload_n hx hb dL_law_201 rfl (hc_g hl rfl) ?_
        refine lv_iconst (v := nI 2) hx hb dL_law_202 (by decide) ?_
        refine hc_addN hx hb dL_law_203 ?_
        refine z_sld hx hb hX hbl hbA (by omega) J (by omega) dL_law_204 ?_
        refine lv_if_eq (tgt := 212) hx hb dL_law_205 (by decide) (fun c3 => ?_) (fun c3 => ?_)
        · exact absurd c3 c2
        · refine lv_iconst (v := nI 1) hx hb dL_law_208 (by decide) ?_
          refine lv_goto (tgt := 213) hx hb dL_law_209 (by decide) ?_
          refine z_callY [.int (xs ((4 * k + 1) + 1)), .int (nI 1)] (rest := [.int (sp_loadByte M rs (xs ((4 * k + 1) + 1)) (nI 1)).1]) S hK hA J hl.1 (my_loadByte) (zy_loadByte hts rfl rfl ⟨by decide, by decide⟩) rfl rfl (Nat.le_of_ble_eq_true rfl) dL_law_213 ⟨by decide, by decide⟩ (fun H locs J => ?_)
          refine lv_icmp_eq (tgt := 577) hx hb dL_law_216 (by decide) (fun c9 => ?_) (fun c9 => ?_)
          · exact t577 _ _ _ _ J
          · exact absurd rfl c9
    · refine lv_tableIn (off := 179) (tgt := 221) hx hb dL_law_42 (by decide) (by decide) (by decide) (by decide) ?_
      refine lv_aload_n hx hb dL_law_221 rfl (hc_g hl rfl) ?_
      refine lv_aload_n hx hb dL_law_222 rfl (hc_g hl rfl) ?_
      refine lv_iload_n hx hb dL_law_223 rfl (hc_g hl rfl) ?_
      refine lv_iconst (v := nI 1) hx hb dL_law_224 (by decide) ?_
      refine hc_addN hx hb dL_law_225 ?_
      refine z_sld hx hb hX hbl hbA (by omega) J (by omega) dL_law_226 ?_
      refine lv_aload_n hx hb dL_law_227 rfl (hc_g hl rfl) ?_
      refine lv_iload_n hx hb dL_law_228 rfl (hc_g hl rfl) ?_
      refine lv_iconst (v := nI 2) hx hb dL_law_229 (by decide) ?_
      refine hc_addN hx hb dL_law_230 ?_
      refine z_sld hx hb hX hbl hbA (by omega) J (by omega) dL_law_231 ?_
      refine z_callX [.int (xs ((4 * k + 1) + 1)), .int (xs ((4 * k + 1) + 2))] (rest := []) S hK hA J hl.1 (fun _ _ _ _ hI => met_storeByte hfs hss hI) (zx_storeByte hts rfl rfl ⟨by decide, by decide⟩) rfl rfl (Nat.le_of_ble_eq_true rfl) dL_law_232 ⟨by decide, by decide⟩ (fun H locs J => ?_)
      refine lv_aload_n hx hb dL_law_235 rfl (hc_g hl rfl) ?_
      refine lv_aload_n hx hb dL_law_236 rfl (hc_g hl rfl) ?_
      refine lv_iload_n hx hb dL_law_237 rfl (hc_g hl rfl) ?_
      refine lv_iconst (v := nI 1) hx hb dL_law_238 (by decide) ?_
      refine hc_addN hx hb dL_law_239 ?_
      refine z_sld hx hb hX hbl hbA (by omega) J (by omega) dL_law_240 ?_
      refine lv_aload_n hx hb dL_law_241 rfl (hc_g hl rfl) ?_
      refine lv_iload_n hx hb dL_law_242 rfl (hc_g hl rfl) ?_
      refine lv_iconst (v := nI 2) hx hb dL_law_243 (by decide) ?_
      refine hc_addN hx hb dL_law_244 ?_
      refine z_sld hx hb hX hbl hbA (by omega) J (by omega) dL_law_245 ?_
      refine z_callY [.int (xs ((4 * k + 1) + 1)), .int (xs ((4 * k + 1) + 2))] (rest := [.int (sp_storeByte M rs (xs ((4 * k + 1) + 1)) (xs ((4 * k + 1) + 2))).1]) S hK hA J hl.1 (my_storeByte) (zy_storeByte hts rfl rfl ⟨by decide, by decide⟩) rfl rfl (Nat.le_of_ble_eq_true rfl) dL_law_246 ⟨by decide, by decide⟩ (fun H locs J => ?_)
      refine lv_icmp_eq (tgt := 577) hx hb dL_law_249 (by decide) (fun c9 => ?_) (fun c9 => ?_)
      · exact t577 _ _ _ _ J
      · exact absurd rfl c9
    · refine lv_tableIn (off := 212) (tgt := 254) hx hb dL_law_42 (by decide) (by decide) (by decide) (by decide) ?_
      refine lv_aload_n hx hb dL_law_254 rfl (hc_g hl rfl) ?_
      refine lv_aload_n hx hb dL_law_255 rfl (hc_g hl rfl) ?_
      refine lv_iload_n hx hb dL_law_256 rfl (hc_g hl rfl) ?_
      refine lv_iconst (v := nI 1) hx hb dL_law_257 (by decide) ?_
      refine hc_addN hx hb dL_law_258 ?_
      refine z_sld hx hb hX hbl hbA (by omega) J (by omega) dL_law_259 ?_
      refine lv_aload_n hx hb dL_law_260 rfl (hc_g hl rfl) ?_
      refine lv_iload_n hx hb dL_law_261 rfl (hc_g hl rfl) ?_
      refine lv_iconst (v := nI 2) hx hb dL_law_262 (by decide) ?_
      refine hc_addN hx hb dL_law_263 ?_
      refine z_sld hx hb hX hbl hbA (by omega) J (by omega) dL_law_264 ?_
      refine z_callX [.int (xs ((4 * k + 1) + 1)), .int (xs ((4 * k + 1) + 2))] (rest := []) S hK hA J hl.1 (fun _ _ _ _ hI => met_swap hfs hss hI) (zx_swap hts rfl rfl ⟨by decide, by decide⟩) rfl rfl (Nat.le_of_ble_eq_true rfl) dL_law_265 ⟨by decide, by decide⟩ (fun H locs J => ?_)
      refine lv_aload_n hx hb dL_law_268 rfl (hc_g hl rfl) ?_
      refine lv_aload_n hx hb dL_law_269 rfl (hc_g hl rfl) ?_
      refine lv_iload_n hx hb dL_law_270 rfl (hc_g hl rfl) ?_
      refine lv_iconst (v := nI 1) hx hb dL_law_271 (by decide) ?_
      refine hc_addN hx hb dL_law_272 ?_
      refine z_sld hx hb hX hbl hbA (by omega) J (by omega) dL_law_273 ?_
      refine lv_aload_n hx hb dL_law_274 rfl (hc_g hl rfl) ?_
      refine lv_iload_n hx hb dL_law_275 rfl (hc_g hl rfl) ?_
      refine lv_iconst (v := nI 2) hx hb dL_law_276 (by decide) ?_
      refine hc_addN hx hb dL_law_277 ?_
      refine z_sld hx hb hX hbl hbA (by omega) J (by omega) dL_law_278 ?_
      refine z_callY [.int (xs ((4 * k + 1) + 1)), .int (xs ((4 * k + 1) + 2))] (rest := [.int (sp_swap M rs (xs ((4 * k + 1) + 1)) (xs ((4 * k + 1) + 2))).1]) S hK hA J hl.1 (my_swap) (zy_swap hts rfl rfl ⟨by decide, by decide⟩) rfl rfl (Nat.le_of_ble_eq_true rfl) dL_law_279 ⟨by decide, by decide⟩ (fun H locs J => ?_)
      refine lv_icmp_eq (tgt := 577) hx hb dL_law_282 (by decide) (fun c9 => ?_) (fun c9 => ?_)
      · exact t577 _ _ _ _ J
      · exact absurd rfl c9
    · refine lv_tableIn (off := 245) (tgt := 287) hx hb dL_law_42 (by decide) (by decide) (by decide) (by decide) ?_
      refine lv_aload_n hx hb dL_law_287 rfl (hc_g hl rfl) ?_
      refine lv_aload_n hx hb dL_law_288 rfl (hc_g hl rfl) ?_
      refine lv_iload_n hx hb dL_law_289 rfl (hc_g hl rfl) ?_
      refine lv_iconst (v := nI 1) hx hb dL_law_290 (by decide) ?_
      refine hc_addN hx hb dL_law_291 ?_
      refine z_sld hx hb hX hbl hbA (by omega) J (by omega) dL_law_292 ?_
      refine lv_aload_n hx hb dL_law_293 rfl (hc_g hl rfl) ?_
      refine lv_iload_n hx hb dL_law_294 rfl (hc_g hl rfl) ?_
      refine lv_iconst (v := nI 2) hx hb dL_law_295 (by decide) ?_
      refine hc_addN hx hb dL_law_296 ?_
      refine z_sld hx hb hX hbl hbA (by omega) J (by omega) dL_law_297 ?_
      refine z_callX [.int (xs ((4 * k + 1) + 1)), .int (xs ((4 * k + 1) + 2))] (rest := []) S hK hA J hl.1 (fun _ _ _ _ hI => met_addTo hfs hss hI) (zx_addTo hts rfl rfl ⟨by decide, by decide⟩) rfl rfl (Nat.le_of_ble_eq_true rfl) dL_law_298 ⟨by decide, by decide⟩ (fun H locs J => ?_)
      refine lv_aload_n hx hb dL_law_301 rfl (hc_g hl rfl) ?_
      refine lv_aload_n hx hb dL_law_302 rfl (hc_g hl rfl) ?_
      refine lv_iload_n hx hb dL_law_303 rfl (hc_g hl rfl) ?_
      refine lv_iconst (v := nI 1) hx hb dL_law_304 (by decide) ?_
      refine hc_addN hx hb dL_law_305 ?_
      refine z_sld hx hb hX hbl hbA (by omega) J (by omega) dL_law_306 ?_
      refine lv_aload_n hx hb dL_law_307 rfl (hc_g hl rfl) ?_
      refine lv_iload_n hx hb dL_law_308 rfl (hc_g hl rfl) ?_
      refine lv_iconst (v := nI 2) hx hb dL_law_309 (by decide) ?_
      refine hc_addN hx hb dL_law_310 ?_
      refine z_sld hx hb hX hbl hbA (by omega) J (by omega) dL_law_311 ?_
      refine z_callY [.int (xs ((4 * k + 1) + 1)), .int (xs ((4 * k + 1) + 2))] (rest := [.int (sp_addTo M rs (xs ((4 * k + 1) + 1)) (xs ((4 * k + 1) + 2))).1]) S hK hA J hl.1 (my_addTo) (zy_addTo hts rfl rfl ⟨by decide, by decide⟩) rfl rfl (Nat.le_of_ble_eq_true rfl) dL_law_312 ⟨by decide, by decide⟩ (fun H locs J => ?_)
      refine lv_icmp_eq (tgt := 577) hx hb dL_law_315 (by decide) (fun c9 => ?_) (fun c9 => ?_)
      · exact t577 _ _ _ _ J
      · exact absurd rfl c9
    · refine lv_tableIn (off := 278) (tgt := 320) hx hb dL_law_42 (by decide) (by decide) (by decide) (by decide) ?_
      refine lv_aload_n hx hb dL_law_320 rfl (hc_g hl rfl) ?_
      refine lv_aload_n hx hb dL_law_321 rfl (hc_g hl rfl) ?_
      refine lv_iload_n hx hb dL_law_322 rfl (hc_g hl rfl) ?_
      refine lv_iconst (v := nI 1) hx hb dL_law_323 (by decide) ?_
      refine hc_addN hx hb dL_law_324 ?_
      refine z_sld hx hb hX hbl hbA (by omega) J (by omega) dL_law_325 ?_
      refine z_callX [.int (xs ((4 * k + 1) + 1))] (rest := []) S hK hA J hl.1 (fun _ _ _ _ hI => met_loadReserved hfs hss hI) (zx_loadReserved hts rfl rfl ⟨by decide, by decide⟩) rfl rfl (Nat.le_of_ble_eq_true rfl) dL_law_326 ⟨by decide, by decide⟩ (fun H locs J => ?_)
      refine lv_aload_n hx hb dL_law_329 rfl (hc_g hl rfl) ?_
      refine lv_aload_n hx hb dL_law_330 rfl (hc_g hl rfl) ?_
      refine lv_iload_n hx hb dL_law_331 rfl (hc_g hl rfl) ?_
      refine lv_iconst (v := nI 1) hx hb dL_law_332 (by decide) ?_
      refine hc_addN hx hb dL_law_333 ?_
      refine z_sld hx hb hX hbl hbA (by omega) J (by omega) dL_law_334 ?_
      refine z_callY [.int (xs ((4 * k + 1) + 1))] (rest := [.int (sp_loadReserved M rs (xs ((4 * k + 1) + 1))).1]) S hK hA J hl.1 (my_loadReserved) (zy_loadReserved hts rfl rfl ⟨by decide, by decide⟩) rfl rfl (Nat.le_of_ble_eq_true rfl) dL_law_335 ⟨by decide, by decide⟩ (fun H locs J => ?_)
      refine lv_icmp_eq (tgt := 577) hx hb dL_law_338 (by decide) (fun c9 => ?_) (fun c9 => ?_)
      · exact t577 _ _ _ _ J
      · exact absurd rfl c9
    · refine lv_tableIn (off := 301) (tgt := 343) hx hb dL_law_42 (by decide) (by decide) (by decide) (by decide) ?_
      refine lv_aload_n hx hb dL_law_343 rfl (hc_g hl rfl) ?_
      refine lv_aload_n hx hb dL_law_344 rfl (hc_g hl rfl) ?_
      refine lv_iload_n hx hb dL_law_345 rfl (hc_g hl rfl) ?_
      refine lv_iconst (v := nI 1) hx hb dL_law_346 (by decide) ?_
      refine hc_addN hx hb dL_law_347 ?_
      refine z_sld hx hb hX hbl hbA (by omega) J (by omega) dL_law_348 ?_
      refine lv_aload_n hx hb dL_law_349 rfl (hc_g hl rfl) ?_
      refine lv_iload_n hx hb dL_law_350 rfl (hc_g hl rfl) ?_
      refine lv_iconst (v := nI 2) hx hb dL_law_351 (by decide) ?_
      refine hc_addN hx hb dL_law_352 ?_
      refine z_sld hx hb hX hbl hbA (by omega) J (by omega) dL_law_353 ?_
      refine z_callX [.int (xs ((4 * k + 1) + 1)), .int (xs ((4 * k + 1) + 2))] (rest := []) S hK hA J hl.1 (fun _ _ _ _ hI => met_storeConditional hfs hss hI) (zx_storeConditional hts rfl rfl ⟨by decide, by decide⟩) rfl rfl (Nat.le_of_ble_eq_true rfl) dL_law_354 ⟨by decide, by decide⟩ (fun H locs J => ?_)
      refine lv_aload_n hx hb dL_law_357 rfl (hc_g hl rfl) ?_
      refine lv_aload_n hx hb dL_law_358 rfl (hc_g hl rfl) ?_
      refine lv_iload_n hx hb dL_law_359 rfl (hc_g hl rfl) ?_
      refine lv_iconst (v := nI 1) hx hb dL_law_360 (by decide) ?_
      refine hc_addN hx hb dL_law_361 ?_
      refine z_sld hx hb hX hbl hbA (by omega) J (by omega) dL_law_362 ?_
      refine lv_aload_n hx hb dL_law_363 rfl (hc_g hl rfl) ?_
      refine lv_iload_n hx hb dL_law_364 rfl (hc_g hl rfl) ?_
      refine lv_iconst (v := nI 2) hx hb dL_law_365 (by decide) ?_
      refine hc_addN hx hb dL_law_366 ?_
      refine z_sld hx hb hX hbl hbA (by omega) J (by omega) dL_law_367 ?_
      refine z_callY [.int (xs ((4 * k + 1) + 1)), .int (xs ((4 * k + 1) + 2))] (rest := [.int (sp_storeConditional M rs (xs ((4 * k + 1) + 1)) (xs ((4 * k + 1) + 2))).1]) S hK hA J hl.1 (my_storeConditional) (zy_storeConditional hts rfl rfl ⟨by decide, by decide⟩) rfl rfl (Nat.le_of_ble_eq_true rfl) dL_law_368 ⟨by decide, by decide⟩ (fun H locs J => ?_)
      refine lv_icmp_eq (tgt := 577) hx hb dL_law_371 (by decide) (fun c9 => ?_) (fun c9 => ?_)
      · exact t577 _ _ _ _ J
      · exact absurd rfl c9
    · refine lv_tableIn (off := 334) (tgt := 376) hx hb dL_law_42 (by decide) (by decide) (by decide) (by decide) ?_
      refine lv_aload_n hx hb dL_law_376 rfl (hc_g hl rfl) ?_
      refine lv_aload_n hx hb dL_law_377 rfl (hc_g hl rfl) ?_
      refine lv_iload_n hx hb dL_law_378 rfl (hc_g hl rfl) ?_
      refine lv_iconst (v := nI 1) hx hb dL_law_379 (by decide) ?_
      refine hc_addN hx hb dL_law_380 ?_
      refine z_sld hx hb hX hbl hbA (by omega) J (by omega) dL_law_381 ?_
      refine lv_aload_n hx hb dL_law_382 rfl (hc_g hl rfl) ?_
      refine lv_iload_n hx hb dL_law_383 rfl (hc_g hl rfl) ?_
      refine lv_iconst (v := nI 2) hx hb dL_law_384 (by decide) ?_
      refine hc_addN hx hb dL_law_385 ?_
      refine z_sld hx hb hX hbl hbA (by omega) J (by omega) dL_law_386 ?_
      refine lv_aload_n hx hb dL_law_387 rfl (hc_g hl rfl) ?_
      refine lv_iload_n hx hb dL_law_388 rfl (hc_g hl rfl) ?_
      refine lv_iconst (v := nI 3) hx hb dL_law_389 (by decide) ?_
      refine hc_addN hx hb dL_law_390 ?_
      refine z_sld hx hb hX hbl hbA (by omega) J (by omega) dL_law_391 ?_
      refine z_callX [.int (xs ((4 * k + 1) + 1)), .int (xs ((4 * k + 1) + 2)), .int (xs ((4 * k + 1) + 3))] (rest := []) S hK hA J hl.1 (fun _ _ _ _ hI => met_copy hfs hss hI) (zx_copy hts rfl rfl ⟨by decide, by decide⟩) rfl rfl (Nat.le_of_ble_eq_true rfl) dL_law_392 ⟨by decide, by decide⟩ (fun H locs J => ?_)
      refine lv_aload_n hx hb dL_law_395 rfl (hc_g hl rfl) ?_
      refine lv_aload_n hx hb dL_law_396 rfl (hc_g hl rfl) ?_
      refine lv_iload_n hx hb dL_law_397 rfl (hc_g hl rfl) ?_
      refine lv_iconst (v := nI 1) hx hb dL_law_398 (by decide) ?_
      refine hc_addN hx hb dL_law_399 ?_
      refine z_sld hx hb hX hbl hbA (by omega) J (by omega) dL_law_400 ?_
      refine lv_aload_n hx hb dL_law_401 rfl (hc_g hl rfl) ?_
      refine lv_iload_n hx hb dL_law_402 rfl (hc_g hl rfl) ?_
      refine lv_iconst (v := nI 2) hx hb dL_law_403 (by decide) ?_
      refine hc_addN hx hb dL_law_404 ?_
      refine z_sld hx hb hX hbl hbA (by omega) J (by omega) dL_law_405 ?_
      refine lv_aload_n hx hb dL_law_406 rfl (hc_g hl rfl) ?_
      refine lv_iload_n hx hb dL_law_407 rfl (hc_g hl rfl) ?_
      refine lv_iconst (v := nI 3) hx hb dL_law_408 (by decide) ?_
      refine hc_addN hx hb dL_law_409 ?_
      refine z_sld hx hb hX hbl hbA (by omega) J (by omega) dL_law_410 ?_
      refine z_callY [.int (xs ((4 * k + 1) + 1)), .int (xs ((4 * k + 1) + 2)), .int (xs ((4 * k + 1) + 3))] (rest := [.int (sp_copy M rs (xs ((4 * k + 1) + 1)) (xs ((4 * k + 1) + 2)) (xs ((4 * k + 1) + 3))).1]) S hK hA J hl.1 (my_copy) (zy_copy hts rfl rfl ⟨by decide, by decide⟩) rfl rfl (Nat.le_of_ble_eq_true rfl) dL_law_411 ⟨by decide, by decide⟩ (fun H locs J => ?_)
      refine lv_icmp_eq (tgt := 577) hx hb dL_law_414 (by decide) (fun c9 => ?_) (fun c9 => ?_)
      · exact t577 _ _ _ _ J
      · exact absurd rfl c9
    · refine lv_tableIn (off := 377) (tgt := 419) hx hb dL_law_42 (by decide) (by decide) (by decide) (by decide) ?_
      refine lv_aload_n hx hb dL_law_419 rfl (hc_g hl rfl) ?_
      refine lv_aload_n hx hb dL_law_420 rfl (hc_g hl rfl) ?_
      refine lv_iload_n hx hb dL_law_421 rfl (hc_g hl rfl) ?_
      refine lv_iconst (v := nI 1) hx hb dL_law_422 (by decide) ?_
      refine hc_addN hx hb dL_law_423 ?_
      refine z_sld hx hb hX hbl hbA (by omega) J (by omega) dL_law_424 ?_
      refine z_callX [.int (xs ((4 * k + 1) + 1))] (rest := []) S hK hA J hl.1 (fun _ _ _ _ hI => met_deviceRead hfs hss hI) (zx_deviceRead hts rfl rfl ⟨by decide, by decide⟩) rfl rfl (Nat.le_of_ble_eq_true rfl) dL_law_425 ⟨by decide, by decide⟩ (fun H locs J => ?_)
      refine lv_aload_n hx hb dL_law_428 rfl (hc_g hl rfl) ?_
      refine lv_aload_n hx hb dL_law_429 rfl (hc_g hl rfl) ?_
      refine lv_iload_n hx hb dL_law_430 rfl (hc_g hl rfl) ?_
      refine lv_iconst (v := nI 1) hx hb dL_law_431 (by decide) ?_
      refine hc_addN hx hb dL_law_432 ?_
      refine z_sld hx hb hX hbl hbA (by omega) J (by omega) dL_law_433 ?_
      refine z_callY [.int (xs ((4 * k + 1) + 1))] (rest := [.int (sp_load M rs (xs ((4 * k + 1) + 1))).1]) S hK hA J hl.1 (my_deviceRead) (zy_deviceRead hts rfl rfl ⟨by decide, by decide⟩) rfl rfl (Nat.le_of_ble_eq_true rfl) dL_law_434 ⟨by decide, by decide⟩ (fun H locs J => ?_)
      refine lv_icmp_eq (tgt := 577) hx hb dL_law_437 (by decide) (fun c9 => ?_) (fun c9 => ?_)
      · exact t577 _ _ _ _ J
      · exact absurd rfl c9
    · refine lv_tableIn (off := 400) (tgt := 442) hx hb dL_law_42 (by decide) (by decide) (by decide) (by decide) ?_
      refine lv_aload_n hx hb dL_law_442 rfl (hc_g hl rfl) ?_
      refine lv_aload_n hx hb dL_law_443 rfl (hc_g hl rfl) ?_
      refine lv_iload_n hx hb dL_law_444 rfl (hc_g hl rfl) ?_
      refine lv_iconst (v := nI 1) hx hb dL_law_445 (by decide) ?_
      refine hc_addN hx hb dL_law_446 ?_
      refine z_sld hx hb hX hbl hbA (by omega) J (by omega) dL_law_447 ?_
      refine lv_aload_n hx hb dL_law_448 rfl (hc_g hl rfl) ?_
      refine lv_iload_n hx hb dL_law_449 rfl (hc_g hl rfl) ?_
      refine lv_iconst (v := nI 2) hx hb dL_law_450 (by decide) ?_
      refine hc_addN hx hb dL_law_451 ?_
      refine z_sld hx hb hX hbl hbA (by omega) J (by omega) dL_law_452 ?_
      refine z_callX [.int (xs ((4 * k + 1) + 1)), .int (xs ((4 * k + 1) + 2))] (rest := []) S hK hA J hl.1 (fun _ _ _ _ hI => met_deviceWrite hfs hss hI) (zx_deviceWrite hts rfl rfl ⟨by decide, by decide⟩) rfl rfl (Nat.le_of_ble_eq_true rfl) dL_law_453 ⟨by decide, by decide⟩ (fun H locs J => ?_)
      refine lv_aload_n hx hb dL_law_456 rfl (hc_g hl rfl) ?_
      refine lv_aload_n hx hb dL_law_457 rfl (hc_g hl rfl) ?_
      refine lv_iload_n hx hb dL_law_458 rfl (hc_g hl rfl) ?_
      refine lv_iconst (v := nI 1) hx hb dL_law_459 (by decide) ?_
      refine hc_addN hx hb dL_law_460 ?_
      refine z_sld hx hb hX hbl hbA (by omega) J (by omega) dL_law_461 ?_
      refine lv_aload_n hx hb dL_law_462 rfl (hc_g hl rfl) ?_
      refine lv_iload_n hx hb dL_law_463 rfl (hc_g hl rfl) ?_
      refine lv_iconst (v := nI 2) hx hb dL_law_464 (by decide) ?_
      refine hc_addN hx hb dL_law_465 ?_
      refine z_sld hx hb hX hbl hbA (by omega) J (by omega) dL_law_466 ?_
      refine z_callY [.int (xs ((4 * k + 1) + 1)), .int (xs ((4 * k + 1) + 2))] (rest := [.int (sp_store M rs (xs ((4 * k + 1) + 1)) (xs ((4 * k + 1) + 2))).1]) S hK hA J hl.1 (my_deviceWrite) (zy_deviceWrite hts rfl rfl ⟨by decide, by decide⟩) rfl rfl (Nat.le_of_ble_eq_true rfl) dL_law_467 ⟨by decide, by decide⟩ (fun H locs J => ?_)
      refine lv_icmp_eq (tgt := 577) hx hb dL_law_470 (by decide) (fun c9 => ?_) (fun c9 => ?_)
      · exact t577 _ _ _ _ J
      · exact absurd rfl c9
    · refine lv_tableIn (off := 433) (tgt := 475) hx hb dL_law_42 (by decide) (by decide) (by decide) (by decide) ?_
      refine lv_aload_n hx hb dL_law_475 rfl (hc_g hl rfl) ?_
      refine lv_aload_n hx hb dL_law_476 rfl (hc_g hl rfl) ?_
      refine lv_iload_n hx hb dL_law_477 rfl (hc_g hl rfl) ?_
      refine lv_iconst (v := nI 1) hx hb dL_law_478 (by decide) ?_
      refine hc_addN hx hb dL_law_479 ?_
      refine z_sld hx hb hX hbl hbA (by omega) J (by omega) dL_law_480 ?_
      refine lv_aload_n hx hb dL_law_481 rfl (hc_g hl rfl) ?_
      refine lv_iload_n hx hb dL_law_482 rfl (hc_g hl rfl) ?_
      refine lv_iconst (v := nI 2) hx hb dL_law_483 (by decide) ?_
      refine hc_addN hx hb dL_law_484 ?_
      refine z_sld hx hb hX hbl hbA (by omega) J (by omega) dL_law_485 ?_
      refine lv_aload_n hx hb dL_law_486 rfl (hc_g hl rfl) ?_
      refine lv_iload_n hx hb dL_law_487 rfl (hc_g hl rfl) ?_
      refine lv_iconst (v := nI 3) hx hb dL_law_488 (by decide) ?_
      refine hc_addN hx hb dL_law_489 ?_
      refine z_sld hx hb hX hbl hbA (by omega) J (by omega) dL_law_490 ?_
      refine z_callX [.int (xs ((4 * k + 1) + 1)), .int (xs ((4 * k + 1) + 2)), .int (xs ((4 * k + 1) + 3))] (rest := []) S hK hA J hl.1 (fun _ _ _ _ hI => met_deviceFill hfs hss hI) (zx_deviceFill hts rfl rfl ⟨by decide, by decide⟩) rfl rfl (Nat.le_of_ble_eq_true rfl) dL_law_491 ⟨by decide, by decide⟩ (fun H locs J => ?_)
      refine lv_aload_n hx hb dL_law_494 rfl (hc_g hl rfl) ?_
      refine lv_aload_n hx hb dL_law_495 rfl (hc_g hl rfl) ?_
      refine lv_iload_n hx hb dL_law_496 rfl (hc_g hl rfl) ?_
      refine lv_iconst (v := nI 1) hx hb dL_law_497 (by decide) ?_
      refine hc_addN hx hb dL_law_498 ?_
      refine z_sld hx hb hX hbl hbA (by omega) J (by omega) dL_law_499 ?_
      refine lv_aload_n hx hb dL_law_500 rfl (hc_g hl rfl) ?_
      refine lv_iload_n hx hb dL_law_501 rfl (hc_g hl rfl) ?_
      refine lv_iconst (v := nI 2) hx hb dL_law_502 (by decide) ?_
      refine hc_addN hx hb dL_law_503 ?_
      refine z_sld hx hb hX hbl hbA (by omega) J (by omega) dL_law_504 ?_
      refine lv_aload_n hx hb dL_law_505 rfl (hc_g hl rfl) ?_
      refine lv_iload_n hx hb dL_law_506 rfl (hc_g hl rfl) ?_
      refine lv_iconst (v := nI 3) hx hb dL_law_507 (by decide) ?_
      refine hc_addN hx hb dL_law_508 ?_
      refine z_sld hx hb hX hbl hbA (by omega) J (by omega) dL_law_509 ?_
      refine z_callY [.int (xs ((4 * k + 1) + 1)), .int (xs ((4 * k + 1) + 2)), .int (xs ((4 * k + 1) + 3))] (rest := [.int (sp_deviceFill M rs (xs ((4 * k + 1) + 1)) (xs ((4 * k + 1) + 2)) (xs ((4 * k + 1) + 3))).1]) S hK hA J hl.1 (my_deviceFill) (zy_deviceFill hts rfl rfl ⟨by decide, by decide⟩) rfl rfl (Nat.le_of_ble_eq_true rfl) dL_law_510 ⟨by decide, by decide⟩ (fun H locs J => ?_)
      refine lv_icmp_eq (tgt := 577) hx hb dL_law_513 (by decide) (fun c9 => ?_) (fun c9 => ?_)
      · exact t577 _ _ _ _ J
      · exact absurd rfl c9
    · refine lv_tableIn (off := 476) (tgt := 518) hx hb dL_law_42 (by decide) (by decide) (by decide) (by decide) ?_
      refine lv_aload_n hx hb dL_law_518 rfl (hc_g hl rfl) ?_
      refine lv_aload_n hx hb dL_law_519 rfl (hc_g hl rfl) ?_
      refine lv_iload_n hx hb dL_law_520 rfl (hc_g hl rfl) ?_
      refine lv_iconst (v := nI 1) hx hb dL_law_521 (by decide) ?_
      refine hc_addN hx hb dL_law_522 ?_
      refine z_sld hx hb hX hbl hbA (by omega) J (by omega) dL_law_523 ?_
      refine lv_aload_n hx hb dL_law_524 rfl (hc_g hl rfl) ?_
      refine lv_iload_n hx hb dL_law_525 rfl (hc_g hl rfl) ?_
      refine lv_iconst (v := nI 2) hx hb dL_law_526 (by decide) ?_
      refine hc_addN hx hb dL_law_527 ?_
      refine z_sld hx hb hX hbl hbA (by omega) J (by omega) dL_law_528 ?_
      refine z_callX [.int (xs ((4 * k + 1) + 1)), .int (xs ((4 * k + 1) + 2))] (rest := []) S hK hA J hl.1 (fun _ _ _ _ hI => met_hint hfs hss hI) (zx_hint hts rfl rfl ⟨by decide, by decide⟩) rfl rfl (Nat.le_of_ble_eq_true rfl) dL_law_529 ⟨by decide, by decide⟩ (fun H locs J => ?_)
      refine lv_aload_n hx hb dL_law_532 rfl (hc_g hl rfl) ?_
      refine lv_aload_n hx hb dL_law_533 rfl (hc_g hl rfl) ?_
      refine lv_iload_n hx hb dL_law_534 rfl (hc_g hl rfl) ?_
      refine lv_iconst (v := nI 1) hx hb dL_law_535 (by decide) ?_
      refine hc_addN hx hb dL_law_536 ?_
      refine z_sld hx hb hX hbl hbA (by omega) J (by omega) dL_law_537 ?_
      refine lv_aload_n hx hb dL_law_538 rfl (hc_g hl rfl) ?_
      refine lv_iload_n hx hb dL_law_539 rfl (hc_g hl rfl) ?_
      refine lv_iconst (v := nI 2) hx hb dL_law_540 (by decide) ?_
      refine hc_addN hx hb dL_law_541 ?_
      refine z_sld hx hb hX hbl hbA (by omega) J (by omega) dL_law_542 ?_
      refine z_callY [.int (xs ((4 * k + 1) + 1)), .int (xs ((4 * k + 1) + 2))] (rest := [.int (sp_hint M rs (xs ((4 * k + 1) + 1))).1]) S hK hA J hl.1 (my_hint) (zy_hint hts rfl rfl ⟨by decide, by decide⟩) rfl rfl (Nat.le_of_ble_eq_true rfl) dL_law_543 ⟨by decide, by decide⟩ (fun H locs J => ?_)
      refine lv_icmp_eq (tgt := 577) hx hb dL_law_546 (by decide) (fun c9 => ?_) (fun c9 => ?_)
      · exact t577 _ _ _ _ J
      · exact absurd rfl c9
    · refine lv_tableIn (off := 509) (tgt := 551) hx hb dL_law_42 (by decide) (by decide) (by decide) (by decide) ?_
      refine lv_aload_n hx hb dL_law_551 rfl (hc_g hl rfl) ?_
      refine z_callX [] (rest := []) S hK hA J hl.1 (fun _ _ _ _ hI => met_sum hfs hss hI) (zx_sum hts rfl rfl ⟨by decide, by decide⟩) rfl rfl (Nat.le_of_ble_eq_true rfl) dL_law_552 ⟨by decide, by decide⟩ (fun H locs J => ?_)
      refine lv_aload_n hx hb dL_law_555 rfl (hc_g hl rfl) ?_
      refine z_callY [] (rest := [.int (sp_sum M rs).1]) S hK hA J hl.1 (my_sum) (zy_sum hts rfl rfl ⟨by decide, by decide⟩) rfl rfl (Nat.le_of_ble_eq_true rfl) dL_law_556 ⟨by decide, by decide⟩ (fun H locs J => ?_)
      refine lv_icmp_eq (tgt := 577) hx hb dL_law_559 (by decide) (fun c9 => ?_) (fun c9 => ?_)
      · exact t577 _ _ _ _ J
      · exact absurd rfl c9
    · refine lv_tableIn (off := 522) (tgt := 564) hx hb dL_law_42 (by decide) (by decide) (by decide) (by decide) ?_
      refine lv_aload_n hx hb dL_law_564 rfl (hc_g hl rfl) ?_
      refine z_callX [] (rest := []) S hK hA J hl.1 (fun _ _ _ _ hI => met_reserved hI) (zx_reserved hts rfl rfl ⟨by decide, by decide⟩) rfl rfl (Nat.le_of_ble_eq_true rfl) dL_law_565 ⟨by decide, by decide⟩ (fun H locs J => ?_)
      refine lv_aload_n hx hb dL_law_568 rfl (hc_g hl rfl) ?_
      refine z_callY [] (rest := [.int (sp_reserved M rs).1]) S hK hA J hl.1 (my_reserved) (zy_reserved hts rfl rfl ⟨by decide, by decide⟩) rfl rfl (Nat.le_of_ble_eq_true rfl) dL_law_569 ⟨by decide, by decide⟩ (fun H locs J => ?_)
      refine lv_icmp_eq (tgt := 577) hx hb dL_law_572 (by decide) (fun c9 => ?_) (fun c9 => ?_)
      · exact t577 _ _ _ _ J
      · exact absurd rfl c9
    · refine lv_tableOut (tgt := 577) hx hb dL_law_42 (by decide) (by decide) ?_
      exact t577 _ _ _ _ J
end
section
set_option maxRecDepth 100000
set_option maxHeartbeats 4000000 in
theorem z_blind {b L : Nat} {xs : Nat → Int32} {As : List Value} : FrameBlind (va_Pc As (fun U => va_X b L xs U U.heap)) := by
  intro a U g mk q
  exact ⟨q.1, va_X.moved (u := U) (U := U.calling g mk a) (Vm.Alike.refl U.vm) q.2⟩
set_option maxHeartbeats 4000000 in
/-- from the entry, for every script of at most 257 ints, the law comes to its end with true -/
theorem whole_start {p : Program} {e : Env} {s : State} {m : MethodId} {below : List Frame} {meth : Method} {c : Code} (l : Launch) {b L : Nat} {xs : Nat → Int32} (hL : L ≤ 257) (C0 : lw_At p s m meth c b L xs) : W p l e room_1 s m #[Value.ref b] below meth c s.heap [] 0 0 (lw_Z below #[Value.ref b] s) (entryFrame m ([Value.ref b] : List Value).toArray 4) := by
  obtain ⟨hx, hb, hr, hml, hown, hts0, hX, hbl, hlocks, -⟩ := C0
  have hb : c.code = cL_law := hb
  have hown : s.vm.findClass RX0 = some m.cls := hown
  have hts : ∀ w ∈ lw_all, w.before #[Value.ref b] s = true := fun w h => hts0 w (lw_all_tbl h)
  have S : CallFix p m c cL_law 4 s #[Value.ref b] lw_all RX0 := ⟨hx, hb, hml, hown, hts⟩
  obtain ⟨cC1, iS1, hKn1⟩ := u_known (C := RX1) (T := TX1) (N := 11) (n := 11) hts0 (fun w h => lw_all_tbl (in_X1 w h)) (hts _ q28)
  obtain ⟨cC2, iS2, hKn2⟩ := u_known (C := RX2) (T := TX2) (N := 2) (n := 2) hts0 (fun w h => lw_all_tbl (in_X2 w h)) (hts _ q222)
  obtain ⟨D, hDD⟩ : ∃ D : va_G, va_K D vwCl [] s := by
    refine ⟨(fun k => if k = 0 then cC1 else cC2, fun k => if k = 0 then iS1 else iS2), fun k q hq => ?_, fun k q hq => by simp at hq⟩
    match k, hq with
    | 0, hq => cases hq; exact hKn1
    | 1, hq => cases hq; exact hKn2
    | k + 2, hq => simp [vwCl] at hq
  have hK : va_K D vwCl [] s := hDD
  have hbA : ¬ s.heap.size ≤ b := by omega
  have hA : ∀ q, s.heap.size ≤ q → (fun q => s.heap.size ≤ q) q := fun q h => h
  have hP : va_P D vwCl [] s.heap := fun k q hq => by simp at hq
  have hD : va_D (fun q => s.heap.size ≤ q) [] := ⟨fun i j x y hi => by simp at hi, fun k q hq => by simp at hq⟩
  have hS : va_S (fun q => s.heap.size ≤ q) s.heap s.heap [] := va_S.rf
  have hl := lv_entry ([.ref b]) (n := 4) (Nat.le_of_ble_eq_true rfl)
  rw [lg_entry_eq]
  generalize (lg_sl ([.ref b]) ++ List.replicate (4 - (lg_sl ([.ref b])).length) Slot.unset).toArray = ls at hl ⊢
  have hl : lv_has ls 4 [(0, .ref b)] := hl
  refine va_new (ci := 0) (fs := xF0) (C := RX1) (T := TX1) (N := 11) hx hb hts in_X1 tyX1 tyX1_ok hown (hts _ q27) (hts _ q28) (hts _ q25) hK hP hD hS hA rfl (fun j hj => by rcases (show j = 0 ∨ j = 1 ∨ j = 2 ∨ j = 3 ∨ j = 4 ∨ j = 5 ∨ j = 6 ∨ j = 7 ∨ j = 8 ∨ j = 9 ∨ j = 10 by omega) with rfl | rfl | rfl | rfl | rfl | rfl | rfl | rfl | rfl | rfl | rfl <;> rfl) (by decide) (by decide) dL_law_0 (fun qx H hP hD hS => ?_)
  have hP : va_P D vwCl [(qx, .inr (0, xF0))] H := hP
  have hD : va_D (fun q => s.heap.size ≤ q) [(qx, .inr (0, xF0))] := hD
  refine W.widen (k := 1) (n := 11) (by omega) (by omega) ?_
  refine lv_dup hx hb dL_law_3 rfl ?_
  refine lv_aload_n hx hb dL_law_4 rfl (hc_g hl rfl) ?_
  refine lv_iconst (v := nI 0) hx hb dL_law_5 (by decide) ?_
  refine va_calli (va_runS (As := [.ref b, .int (nI 0)]) (rest := [.ref qx, .ref qx]) S (mz_cell l (b := b) (L := L) (xs := xs) (by omega)) (zw_cell hts rfl rfl ⟨by decide, by decide⟩) ⟨z_blind, fun U hU hW => ⟨rfl, by show va_X b L xs U U.heap; rw [hU]; exact (hX.kept (hS.2.1 b hbl hbA)).moved hW.alike⟩⟩ rfl rfl hl.1 rfl (lv_room (Nat.le_of_ble_eq_true rfl)) dL_law_6 ⟨by decide, by decide⟩) hS (fun q _ h => h.elim) (fun q h => h.elim) (fun r_1 u t H1 locs ht hvm hp hB hz hk hS => ?_)
  have hP := hP.kept (H1 := H1) (fun k q hq => hk q.1 (hP k q hq).lt (fun h => h))
  clear hp hB hz hk ht hvm
  generalize H1 = H at hP hS ⊢
  refine W.widen (k := 1) (n := 11) (by omega) (by omega) ?_
  have hFc := va_free (wc := [(qx, .inr (0, xF0))]) hD hS hA [0] rfl
  refine va_callv (va_runI (As := [.int r_1]) (rest := [.ref qx]) S (met_init l D qx H.size r_1) (zwx_init hts rfl rfl ⟨by decide, by decide⟩) ⟨fun a U g mk q => by obtain ⟨q0, q1, qP, qK, qD⟩ := q; exact ⟨q0, q1, qP, va_K.moved (u := U) (U := U.calling g mk a) (Vm.Alike.refl U.vm) qK, qD⟩, fun U hU hW => ⟨rfl, by rw [hU], by rw [hU]; exact hP, va_K.moved hW.alike hK, hD.weaken (fun _ _ _ _ => trivial)⟩⟩ rfl rfl hl.1 rfl (lv_room (Nat.le_of_ble_eq_true rfl)) dL_law_9 ⟨by decide, by decide⟩) hS (fun q _ h => hFc q h) hFc (fun u t H1 locs ht hvm hw1 hB hz1 hk1 hS => ?_)
  obtain ⟨ad, cA, fs, ss, la, lin, usd, clk, lm, e0, hfs, hss, hlin, hP1, hK1, hD1⟩ := hB
  rw [ht] at hP1
  have hK := va_K.moved hvm.symm hK1
  have hD := hD1.weaken (fun _ _ _ h => hFc _ h)
  have hP := hP1
  clear hP1 hK1 hD1 hw1 hz1 hk1 ht hvm hFc
  generalize H1 = H at hP hS ⊢
  rw [← e0]
  refine W.widen (k := 6) (n := 449) (by omega) (by omega) ?_
  refine lv_astore_n (lv' := [(1, .ref (ad 0)), (0, .ref b)]) hx hb dL_law_12 rfl hl (by decide) rfl (fun ls hl => ?_)
  refine va_new (ci := 1) (fs := yF0) (C := RX2) (T := TX2) (N := 2) hx hb hts in_X2 tyX2 tyX2_ok hown (hts _ q221) (hts _ q222) (hts _ q26) hK hP hD hS hA rfl (fun j hj => by rcases (show j = 0 ∨ j = 1 by omega) with rfl | rfl <;> rfl) (by decide) (by decide) dL_law_13 (fun qy H hP hD hS => ?_)
  refine W.widen (k := 7) (n := 451) (by omega) (by omega) ?_
  refine lv_dup hx hb dL_law_16 rfl ?_
  refine lv_aload_n hx hb dL_law_17 rfl (hc_g hl rfl) ?_
  refine lv_iconst (v := nI 0) hx hb dL_law_18 (by decide) ?_
  refine va_calli (va_runS (As := [.ref b, .int (nI 0)]) (rest := [.ref qy, .ref qy]) S (mz_cell l (b := b) (L := L) (xs := xs) (by omega)) (zw_cell hts rfl rfl ⟨by decide, by decide⟩) ⟨z_blind, fun U hU hW => ⟨rfl, by show va_X b L xs U U.heap; rw [hU]; exact (hX.kept (hS.2.1 b hbl hbA)).moved hW.alike⟩⟩ rfl rfl hl.1 rfl (lv_room (Nat.le_of_ble_eq_true rfl)) dL_law_19 ⟨by decide, by decide⟩) hS (fun q _ h => h.elim) (fun q h => h.elim) (fun r_2 u t H1 locs ht hvm hp hB hz hk hS => ?_)
  have hP := hP.kept (H1 := H1) (fun k q hq => hk q.1 (hP k q hq).lt (fun h => h))
  clear hp hB hz hk ht hvm
  generalize H1 = H at hP hS ⊢
  refine W.widen (k := 7) (n := 451) (by omega) (by omega) ?_
  have hPc := hP.sub (ws' := [(qy, .inr (1, yF0))]) [6] rfl
  have hDc := hD.sub (ws' := [(qy, .inr (1, yF0))]) [6] (by decide) rfl
  have hKc := hK.sub (tys' := []) [] rfl
  have hFc := va_free (wc := [(qy, .inr (1, yF0))]) hD hS hA [6] rfl
  refine va_callv (va_runI (As := [.int r_2]) (rest := [.ref qy]) S (my_init l D qy H.size r_2) (zwy_init hts rfl rfl ⟨by decide, by decide⟩) ⟨fun a U g mk q => by obtain ⟨q0, q1, qP, qK, qD⟩ := q; exact ⟨q0, q1, qP, va_K.moved (u := U) (U := U.calling g mk a) (Vm.Alike.refl U.vm) qK, qD⟩, fun U hU hW => ⟨rfl, by rw [hU], by rw [hU]; exact hPc, va_K.moved hW.alike hKc, hDc.weaken (fun _ _ _ _ => trivial)⟩⟩ rfl rfl hl.1 rfl (lv_room (Nat.le_of_ble_eq_true rfl)) dL_law_22 ⟨by decide, by decide⟩) hS (fun q _ h => hFc q h) hFc (fun u t H1 locs ht hvm hw1 hB hz1 hk1 hS => ?_)
  obtain ⟨bd, dA, e1, hP1, hK1, hD1⟩ := hB
  rw [ht] at hP1
  have hK1 := va_K.moved hvm.symm hK1
  obtain ⟨hP, hD⟩ := va_join (wr := xW ad cA fs ss la (fun _ => 0) lin (fun _ => 0) usd (fun _ => 0) clk lm (-1)) (w1 := yW bd dA (fun _ => 0) (-1)) hP hD [6] [0, 1, 2, 3, 4, 5] rfl rfl (by decide) (by decide) hk1 hFc hP1 hD1
  have hK := hK.app hK1
  clear hP1 hK1 hD1 hw1 hz1 hk1 ht hvm hFc hPc hDc hKc
  generalize H1 = H at hP hS ⊢
  rw [← e1]
  refine W.widen (k := 8) (n := 707) (by omega) (by omega) ?_
  refine lv_astore_n (lv' := [(2, .ref (bd 0)), (1, .ref (ad 0)), (0, .ref b)]) hx hb dL_law_25 rfl hl (by decide) rfl (fun ls hl => ?_)
  refine lv_iconst (v := nI 1) hx hb dL_law_26 (by decide) ?_
  refine lv_istore_n (lv' := [(3, .int (nI 1)), (2, .ref (bd 0)), (1, .ref (ad 0)), (0, .ref b)]) hx hb dL_law_27 rfl hl (by decide) rfl (fun ls hl => ?_)
  exact z_loop hL hx hb hr hlocks hml hown hts hX hbl hfs hss hK ⟨_, lin, _, _, usd, clk, lm, hInv_0 fs ss hlin, hP, hD, hS⟩ (lv_sub hl [0, 3, 2, 1] rfl)
set_option maxHeartbeats 4000000 in
theorem lw_walk (l : Launch) (b : Addr) (xs : List Int32) : MetFree l x (headSpec (Jvm.Cond.code x code maxLocals ret :: tables_1) room_1) (lw_P b xs) (fun _ _ _ _ _ => True) lw_Q := by
  refine MetFree.of_bodyS (code := code) (maxLocals := maxLocals) (ret := ret) (by decide) ?_ ?_
  · intro args s m h hn
    obtain ⟨meth, c, h1, h2, h3, h4, h5, h6, -, -⟩ := Cond.code_spec hn (atoms_spec (ws := Jvm.Cond.code x code maxLocals ret :: tables_1) h _ List.mem_cons_self)
    exact ⟨meth, c, h1, h2, h3, h4, h5, h6⟩
  · intro p e s m args below meth c s₁ B hml0 hP _
    obtain ⟨rfl, hx, hbd, hgv⟩ := hP
    obtain ⟨scr, harrAt, hlist, hof, hsmall⟩ := hx
    obtain ⟨hcb, hkn, -, -⟩ := State.arrayAt?_spec harrAt
    have hown : s.vm.findClass R_law = some m.cls := findClass_of_methodNamed B.named
    have hts0 : ∀ c ∈ (Jvm.Cond.code x code maxLocals ret :: tables_1), c.before #[Value.ref b] s = true := atoms_spec (ws := Jvm.Cond.code x code maxLocals ret :: tables_1) B.pre
    have hts : ∀ w ∈ lw_tbl, w.before #[Value.ref b] s = true := k2_hts_sels lw_privs (fun w hw => hts0 w (List.mem_cons_of_mem _ hw)) lw_privs_ok
    have hml : c.maxLocals = 4 := B.maxLocals_eq (hts0 _ List.mem_cons_self)
    have X₀ : Stand p l e room_1 s m #[Value.ref b] below meth c s₁ [] 0 0 := Stand.of_body B
    have hh0 : s₁.heap = s.heap := by rw [B.state]; rfl
    have hsz : scr.slots.size = xs.length := by rw [← Array.length_toList, hlist, List.length_map]
    have hval : ∀ j : Nat, j < xs.length → scr.slots[j]? = some (.int (xs.getD j 0)) := fun j hj => by
      rw [← Array.getElem?_toList, hlist]
      simp [hj]
    have hbl : b < s.heap.size := (Array.getElem?_eq_some_iff.mp hcb).1
    have hX : va_X b xs.length (fun j => xs.getD j 0) s s.heap := ⟨scr, hcb, hof, hkn, hsz, hval⟩
    have K : W p l e room_1 s m #[Value.ref b] below meth c s₁.heap [] 0 0 (lw_Z below #[Value.ref b] s) (entryFrame m ([Value.ref b] : List Value).toArray 4) := by
      rw [hh0]
      exact whole_start l hbd ⟨B.exec, B.bytes, B.returns, hml, hown, hts, hX, hbl, B.notSynchronized, hgv⟩
    obtain ⟨t, a1, o, b1, b2, b3⟩ := K s₁ rfl X₀
    exact ⟨t, o, a1, b1, b2, b3⟩
theorem lw_pre_spec {args : Array Value} {s : State} (h : (Jvm.Cond.and given_1 narrow_1).before args s = true) (hr : rest_1_c.before args s = true) : ∃ (b : Addr) (xs : List Int32), lw_P b xs args s := by
  have hs := flat_of_before _ h
  have hq := flat_of_before _ hr
  have hc : (Cond.count 1).before args s = true := hs _ (by decide +kernel)
  have harr : (Cond.arrayOf (.arg 0) .int).before args s = true := hs _ (by decide +kernel)
  have hle : (Cond.le (.length (.arg 0)) (.int 257)).before args s = true := hs _ (by decide +kernel)
  have hlen : (Cond.isInt (.length (.arg 0))).before args s = true := hq _ (by decide +kernel)
  have hall : (Cond.all (.arg 0) (.isInt (.elem (.arg 0) (.index 0)))).before args s = true := hq _ (by decide +kernel)
  obtain ⟨b, xs, hb, hx⟩ := State.ints_of_pre rfl harr hlen hall
  have hsm : xs.length < 2 ^ 31 := hx.choose_spec.2.2.2
  have hev : (Term.length (.arg 0)).eval args s none [] s = some (.int xs.length.toInt32) := hx.length_eval hb
  have hv := Cond.le_ints hev (show (Term.int 257).eval args s none [] s = some (.int 257) from rfl)
  have hd : xs.length.toInt32 ≤ 257 := by
    simpa [Cond.before, Cond.holds, hv] using hle
  have hN : xs.length ≤ 257 := (Int32.ofNat_le_ofNat hsm (by decide)).mp (show Int32.ofNat xs.length ≤ Int32.ofNat 257 from hd)
  exact ⟨b, xs, Cond.one_arg hc (show args[0]? = some (.ref b) from hb), hx, hN, h⟩
theorem lw_comes (l : Launch) : Comes l x (Jvm.Cond.code x code maxLocals ret :: tables_1) room_1 (fun tb e args s => Calls_1 tb e args s ∧ rest_1 tb e args s ∧ Pre_1 tb e args s)
    (fun _ _ args s o t => lw_Q args s o t) := by
  intro p e ha hc hk s m args below hf hfit hheap happ hpre
  obtain ⟨b, xs, hP⟩ := lw_pre_spec hpre.2.2 hpre.2.1
  obtain ⟨k, o, h1, h2, h3, hQ⟩ := lw_walk l b xs p e ha hc hk s m args below hf ((Spec.applies_iff_loose hf).mp happ).1 hP trivial
  exact ⟨k, o, h1, h2, h3, hQ⟩
theorem lw_frame {s t : State} {o : Outcome} {args : Array Value} (h : Framed s o t [] 600000 7290000) :
    Framed s o t (fieldLocs frame_1_writes args s ++ arrayLocs frame_1_arrays args s ++ staticLocs frame_1_statics s) 600000 7290000 := h
theorem lw_limb (L : Cond) (hL : ∀ (args : Array Value) (s t : State), L.after args s (.returned (some (.int 1))) t = true) :
    ArmFor flags0 classFile x code maxLocals ret World_1 tables_1 room_1 Calls_1 rest_1 Pre_1
      (fun tb e a s o t => postC L tb e a s o t ∧ Framed s o t (fieldLocs frame_1_writes a s ++ arrayLocs frame_1_arrays a s ++ staticLocs frame_1_statics s) 600000 7290000) := by
  intro l _ _ _ p e ha hc hk s m args below hf hfit hheap happ hpre
  obtain ⟨k, o, h1, h2, h3, rfl, hF⟩ := lw_comes l p e ha hc hk s m args below hf hfit hheap happ hpre
  exact ⟨k, _, h1, h2, h3, hL args s _, lw_frame hF⟩
theorem i_vc : Claimed_1_1 ∧ Claimed_1_2 := ⟨lw_limb limb_1_1 (fun args s t => by simp [limb_1_1, Cond.after, Cond.holds, Cond.value]), lw_limb limb_1_2 (fun args s t => Cond.after_iff.mpr (by
  first | (rw [show limb_1_2 = Cond.eq .result (.int 1) from rfl, Cond.eq_ints (x := 1) (y := 1) rfl rfl]; simp; done) | (simp [limb_1_2, Cond.value, Term.eval]; done)))⟩
end
