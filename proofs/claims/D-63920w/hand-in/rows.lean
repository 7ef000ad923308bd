section
-- ===== PART A: goes FIRST, ahead of the names: the tables' words, and 'selects' of the private methods out of them =====
/-- a private method of a class that the tables say can be made, by its rows of tables_1 -/
def lw_okq (q : MethodName × Nat) : Prop := (q.1.cls ≠ "java/lang/invoke/MethodHandle" ∧ q.1.cls ≠ "java/lang/invoke/VarHandle") ∧ Cond.instantiable q.1.cls q.2 ∈ tables_1 ∧ Cond.privateMethod q.1 ∈ tables_1 ∧ Cond.instanceMethod q.1 ∈ tables_1
set_option maxRecDepth 100000
theorem lw_t1 {w : Cond} (h : w ∈ tables_1_1) : w ∈ tables_1 := List.mem_append_left _ h
theorem lw_t2 {w : Cond} (h : w ∈ tables_1_2) : w ∈ tables_1 := List.mem_append_right _ h
theorem lw_p0 : lw_okq (⟨"AffineAligner", "fillFront", "(I)V"⟩, 12) := ⟨⟨by decide +kernel, by decide +kernel⟩, lw_t1 (List.mem_of_getElem? (i := 4) rfl), lw_t1 (List.mem_of_getElem? (i := 67) rfl), lw_t1 (List.mem_of_getElem? (i := 68) rfl)⟩
theorem lw_p1 : lw_okq (⟨"AffineAligner", "fillCell", "(II)V"⟩, 12) := ⟨⟨by decide +kernel, by decide +kernel⟩, lw_t1 (List.mem_of_getElem? (i := 4) rfl), lw_t1 (List.mem_of_getElem? (i := 71) rfl), lw_t1 (List.mem_of_getElem? (i := 72) rfl)⟩
theorem lw_p2 : lw_okq (⟨"AffineAligner", "mayBegin", "(II)Z"⟩, 12) := ⟨⟨by decide +kernel, by decide +kernel⟩, lw_t1 (List.mem_of_getElem? (i := 4) rfl), lw_t1 (List.mem_of_getElem? (i := 76) rfl), lw_t1 (List.mem_of_getElem? (i := 77) rfl)⟩
theorem lw_p3 : lw_okq (⟨"AffineAligner", "offer", "(IIII)V"⟩, 12) := ⟨⟨by decide +kernel, by decide +kernel⟩, lw_t1 (List.mem_of_getElem? (i := 4) rfl), lw_t1 (List.mem_of_getElem? (i := 80) rfl), lw_t1 (List.mem_of_getElem? (i := 81) rfl)⟩
theorem lw_p4 : lw_okq (⟨"AffineAligner", "gain", "(II)I"⟩, 12) := ⟨⟨by decide +kernel, by decide +kernel⟩, lw_t1 (List.mem_of_getElem? (i := 4) rfl), lw_t1 (List.mem_of_getElem? (i := 84) rfl), lw_t1 (List.mem_of_getElem? (i := 85) rfl)⟩
theorem lw_p5 : lw_okq (⟨"AffineAligner", "extend", "(IIII)V"⟩, 12) := ⟨⟨by decide +kernel, by decide +kernel⟩, lw_t1 (List.mem_of_getElem? (i := 4) rfl), lw_t1 (List.mem_of_getElem? (i := 88) rfl), lw_t1 (List.mem_of_getElem? (i := 89) rfl)⟩
theorem lw_p6 : lw_okq (⟨"AffineAligner", "costOf", "(II)I"⟩, 12) := ⟨⟨by decide +kernel, by decide +kernel⟩, lw_t1 (List.mem_of_getElem? (i := 4) rfl), lw_t1 (List.mem_of_getElem? (i := 92) rfl), lw_t1 (List.mem_of_getElem? (i := 93) rfl)⟩
theorem lw_p7 : lw_okq (⟨"AffineAligner", "bestAt", "(II)I"⟩, 12) := ⟨⟨by decide +kernel, by decide +kernel⟩, lw_t1 (List.mem_of_getElem? (i := 4) rfl), lw_t1 (List.mem_of_getElem? (i := 96) rfl), lw_t1 (List.mem_of_getElem? (i := 97) rfl)⟩
theorem lw_p8 : lw_okq (⟨"AffineAligner", "findFirst", "()V"⟩, 12) := ⟨⟨by decide +kernel, by decide +kernel⟩, lw_t1 (List.mem_of_getElem? (i := 4) rfl), lw_t1 (List.mem_of_getElem? (i := 109) rfl), lw_t1 (List.mem_of_getElem? (i := 110) rfl)⟩
theorem lw_p9 : lw_okq (⟨"AffineAligner", "fillBehind", "()V"⟩, 12) := ⟨⟨by decide +kernel, by decide +kernel⟩, lw_t1 (List.mem_of_getElem? (i := 4) rfl), lw_t1 (List.mem_of_getElem? (i := 113) rfl), lw_t1 (List.mem_of_getElem? (i := 114) rfl)⟩
theorem lw_p10 : lw_okq (⟨"AffineAligner", "restAfter", "(III)I"⟩, 12) := ⟨⟨by decide +kernel, by decide +kernel⟩, lw_t1 (List.mem_of_getElem? (i := 4) rfl), lw_t1 (List.mem_of_getElem? (i := 117) rfl), lw_t1 (List.mem_of_getElem? (i := 118) rfl)⟩
theorem lw_p11 : lw_okq (⟨"AffineAligner", "withColumn", "(IIII)I"⟩, 12) := ⟨⟨by decide +kernel, by decide +kernel⟩, lw_t1 (List.mem_of_getElem? (i := 4) rfl), lw_t1 (List.mem_of_getElem? (i := 121) rfl), lw_t1 (List.mem_of_getElem? (i := 122) rfl)⟩
theorem lw_p12 : lw_okq (⟨"AffineAlignerModel", "work", "(III)V"⟩, 8) := ⟨⟨by decide +kernel, by decide +kernel⟩, lw_t1 (List.mem_of_getElem? (i := 145) rfl), lw_t1 (List.mem_of_getElem? (i := 192) rfl), lw_t1 (List.mem_of_getElem? (i := 193) rfl)⟩
theorem lw_p13 : lw_okq (⟨"AffineAlignerModel", "fill", "(IIIIII)V"⟩, 8) := ⟨⟨by decide +kernel, by decide +kernel⟩, lw_t1 (List.mem_of_getElem? (i := 145) rfl), lw_t1 (List.mem_of_getElem? (i := 196) rfl), lw_t1 (List.mem_of_getElem? (i := 197) rfl)⟩
theorem lw_p14 : lw_okq (⟨"AffineAlignerModel", "offer", "(III)V"⟩, 8) := ⟨⟨by decide +kernel, by decide +kernel⟩, lw_t1 (List.mem_of_getElem? (i := 145) rfl), lw_t1 (List.mem_of_getElem? (i := 201) rfl), lw_t1 (List.mem_of_getElem? (i := 202) rfl)⟩
theorem lw_p15 : lw_okq (⟨"AffineAlignerModel", "gain", "(II)I"⟩, 8) := ⟨⟨by decide +kernel, by decide +kernel⟩, lw_t1 (List.mem_of_getElem? (i := 145) rfl), lw_t1 (List.mem_of_getElem? (i := 206) rfl), lw_t1 (List.mem_of_getElem? (i := 207) rfl)⟩
def lw_privs_1 : List (MethodName × Nat) := [(⟨"AffineAligner", "fillFront", "(I)V"⟩, 12), (⟨"AffineAligner", "fillCell", "(II)V"⟩, 12), (⟨"AffineAligner", "mayBegin", "(II)Z"⟩, 12), (⟨"AffineAligner", "offer", "(IIII)V"⟩, 12), (⟨"AffineAligner", "gain", "(II)I"⟩, 12), (⟨"AffineAligner", "extend", "(IIII)V"⟩, 12), (⟨"AffineAligner", "costOf", "(II)I"⟩, 12), (⟨"AffineAligner", "bestAt", "(II)I"⟩, 12), (⟨"AffineAligner", "findFirst", "()V"⟩, 12), (⟨"AffineAligner", "fillBehind", "()V"⟩, 12), (⟨"AffineAligner", "restAfter", "(III)I"⟩, 12), (⟨"AffineAligner", "withColumn", "(IIII)I"⟩, 12), (⟨"AffineAlignerModel", "work", "(III)V"⟩, 8), (⟨"AffineAlignerModel", "fill", "(IIIIII)V"⟩, 8), (⟨"AffineAlignerModel", "offer", "(III)V"⟩, 8), (⟨"AffineAlignerModel", "gain", "(II)I"⟩, 8)]
theorem lw_r1 : ∀ q ∈ lw_privs_1, lw_okq q := List.forall_mem_cons.mpr ⟨lw_p0, List.forall_mem_cons.mpr ⟨lw_p1, List.forall_mem_cons.mpr ⟨lw_p2, List.forall_mem_cons.mpr ⟨lw_p3, List.forall_mem_cons.mpr ⟨lw_p4, List.forall_mem_cons.mpr ⟨lw_p5, List.forall_mem_cons.mpr ⟨lw_p6, List.forall_mem_cons.mpr ⟨lw_p7, List.forall_mem_cons.mpr ⟨lw_p8, List.forall_mem_cons.mpr ⟨lw_p9, List.forall_mem_cons.mpr ⟨lw_p10, List.forall_mem_cons.mpr ⟨lw_p11, List.forall_mem_cons.mpr ⟨lw_p12, List.forall_mem_cons.mpr ⟨lw_p13, List.forall_mem_cons.mpr ⟨lw_p14, List.forall_mem_cons.mpr ⟨lw_p15, fun _ h => absurd h List.not_mem_nil⟩⟩⟩⟩⟩⟩⟩⟩⟩⟩⟩⟩⟩⟩⟩⟩
theorem lw_p16 : lw_okq (⟨"AffineAlignerModel", "walk", "(I)I"⟩, 8) := ⟨⟨by decide +kernel, by decide +kernel⟩, lw_t1 (List.mem_of_getElem? (i := 145) rfl), lw_t1 (List.mem_of_getElem? (i := 218) rfl), lw_t1 (List.mem_of_getElem? (i := 219) rfl)⟩
theorem lw_p17 : lw_okq (⟨"AffineAlignerModel", "sort", "(III)I"⟩, 8) := ⟨⟨by decide +kernel, by decide +kernel⟩, lw_t1 (List.mem_of_getElem? (i := 145) rfl), lw_t1 (List.mem_of_getElem? (i := 223) rfl), lw_t1 (List.mem_of_getElem? (i := 224) rfl)⟩
theorem lw_p18 : lw_okq (⟨"AffineAlignerModel", "rest", "(III)I"⟩, 8) := ⟨⟨by decide +kernel, by decide +kernel⟩, lw_t1 (List.mem_of_getElem? (i := 145) rfl), lw_t1 (List.mem_of_getElem? (i := 227) rfl), lw_t1 (List.mem_of_getElem? (i := 228) rfl)⟩
def lw_privs_2 : List (MethodName × Nat) := [(⟨"AffineAlignerModel", "walk", "(I)I"⟩, 8), (⟨"AffineAlignerModel", "sort", "(III)I"⟩, 8), (⟨"AffineAlignerModel", "rest", "(III)I"⟩, 8)]
theorem lw_r2 : ∀ q ∈ lw_privs_2, lw_okq q := List.forall_mem_cons.mpr ⟨lw_p16, List.forall_mem_cons.mpr ⟨lw_p17, List.forall_mem_cons.mpr ⟨lw_p18, fun _ h => absurd h List.not_mem_nil⟩⟩⟩
def lw_privs : List (MethodName × Nat) := lw_privs_1 ++ (lw_privs_2)
def lw_tbl : List Cond := k2_sels lw_privs ++ tables_1
theorem lw_privs_ok : ∀ q ∈ lw_privs, lw_okq q := by
  show ∀ q ∈ lw_privs_1 ++ (lw_privs_2), lw_okq q
  exact List.forall_mem_append.mpr ⟨lw_r1, lw_r2⟩
-- ===== ONE list of words for every method: the tables' words that hold all through a run =====
def lw_all : List Cond := lw_tbl.filter goodWord
/-- a word of the tables by its place: claim/WORDS.tsv -/
theorem lw_w {w : Cond} (i : Nat) (h : lw_tbl[i]? = some w) (g : goodWord w = true) : w ∈ lw_all := List.mem_filter.mpr ⟨List.mem_of_getElem? h, g⟩
theorem lw_all_tbl {w : Cond} (h : w ∈ lw_all) : w ∈ lw_tbl := (List.mem_filter.mp h).1
theorem lw_self : GoodIn lw_all lw_all := fun w h => ⟨h, good_of_word (List.mem_filter.mp h).2⟩
/-- a class's field words, by their places -/
theorem lw_in (ws : List Cond) (ps : List Nat) (hp : ws = ps.filterMap (fun i => lw_tbl[i]?)) (hg : ws.all goodWord = true) : ∀ w ∈ ws, w ∈ lw_all := by
  intro w h
  have h1 := List.all_eq_true.mp hg w h
  rw [hp] at h
  obtain ⟨i, -, hi⟩ := List.mem_filterMap.mp h
  exact lw_w i hi h1
/-- the words of a contract for the method y with code b, L locals, answer r -/
abbrev ws_ (y : MethodName) (b : ByteArray) (L : Nat) (r : Option FieldType) : List Cond := Cond.code y b L r :: lw_all
theorem lw_meth {y : MethodName} {b : ByteArray} {L : Nat} {r : Option FieldType} (h : Cond.code y b L r ∈ lw_all) : GoodIn lw_all (ws_ y b L r) := by
  intro w hw
  rcases List.mem_cons.mp hw with e | e
  · rw [e]
    exact lw_self _ h
  · exact lw_self _ e
theorem lw_app {a c : List Cond} (ha : ∀ w ∈ a, w ∈ lw_all) (hc : GoodIn lw_all c) : GoodIn lw_all (a ++ c) := by
  intro w hw
  rcases List.mem_append.mp hw with e | e
  · exact lw_self w (ha w e)
  · exact hc w e
/-- what a call through an object asks: cwV n hts (lw_V ..) -/
theorem lw_V {own : String} {idx : Nat} {C : String} {y : MethodName} {b : ByteArray} {L : Nat} {r : Option FieldType} (h1 : Cond.methodLink own idx y ∈ lw_all) (h2 : Cond.instanceMethod y ∈ lw_all) (h3 : Cond.selects C y y ∈ lw_all) (h4 : Cond.initialized C ∈ lw_all) (h5 : Cond.code y b L r ∈ lw_all) : GoodIn lw_all (wsV own idx C y (ws_ y b L r)) := by
  refine lw_app ?_ (lw_meth h5)
  intro w hw
  simp only [List.mem_cons, List.not_mem_nil, or_false] at hw
  rcases hw with e | e | e | e
  · rw [e]; exact h1
  · rw [e]; exact h2
  · rw [e]; exact h3
  · rw [e]; exact h4
/-- what a static call asks: va_cwS n hts (lw_S ..) -/
theorem lw_S {own : String} {idx : Nat} {y : MethodName} {b : ByteArray} {L : Nat} {r : Option FieldType} (h1 : Cond.methodLink own idx y ∈ lw_all) (h2 : Cond.static y ∈ lw_all) (h3 : Cond.initialized y.cls ∈ lw_all) (h4 : Cond.code y b L r ∈ lw_all) : GoodIn lw_all (va_wsS own idx y (ws_ y b L r)) := by
  refine lw_app ?_ (lw_meth h4)
  intro w hw
  simp only [List.mem_cons, List.not_mem_nil, or_false] at hw
  rcases hw with e | e | e
  · rw [e]; exact h1
  · rw [e]; exact h2
  · rw [e]; exact h3
/-- the words of a contract for a method WITH HANDLERS (hh: its table) -/
abbrev wsW_ (y : MethodName) (b : ByteArray) (L : Nat) (r : Option FieldType) (hh : List (Nat × Nat × Nat × Nat)) : List Cond := Cond.codeWith y b L r hh :: lw_all
theorem lw_methW {y : MethodName} {b : ByteArray} {L : Nat} {r : Option FieldType} {hh : List (Nat × Nat × Nat × Nat)} (h : Cond.codeWith y b L r hh ∈ lw_all) : GoodIn lw_all (wsW_ y b L r hh) := by
  intro w hw
  rcases List.mem_cons.mp hw with e | e
  · rw [e]
    exact lw_self _ h
  · exact lw_self _ e
/-- any list of words by their places (lw_in), good -/
theorem lw_good {ws : List Cond} (h : ∀ w ∈ ws, w ∈ lw_all) : GoodIn lw_all ws := fun w hw => lw_self w (h w hw)
/-- what a call of a method with handlers asks: vx_cwVW n hts (lw_VW ..), vx_cwSW n hts (lw_SW ..) -/
theorem lw_VW {own : String} {idx : Nat} {C : String} {y : MethodName} {b : ByteArray} {L : Nat} {r : Option FieldType} {hh : List (Nat × Nat × Nat × Nat)} (h1 : Cond.methodLink own idx y ∈ lw_all) (h2 : Cond.instanceMethod y ∈ lw_all) (h3 : Cond.selects C y y ∈ lw_all) (h4 : Cond.initialized C ∈ lw_all) (h5 : Cond.codeWith y b L r hh ∈ lw_all) : GoodIn lw_all (wsV own idx C y (wsW_ y b L r hh)) := by
  refine lw_app ?_ (lw_methW h5)
  intro w hw
  simp only [List.mem_cons, List.not_mem_nil, or_false] at hw
  rcases hw with e | e | e | e
  · rw [e]; exact h1
  · rw [e]; exact h2
  · rw [e]; exact h3
  · rw [e]; exact h4
theorem lw_SW {own : String} {idx : Nat} {y : MethodName} {b : ByteArray} {L : Nat} {r : Option FieldType} {hh : List (Nat × Nat × Nat × Nat)} (h1 : Cond.methodLink own idx y ∈ lw_all) (h2 : Cond.static y ∈ lw_all) (h3 : Cond.initialized y.cls ∈ lw_all) (h4 : Cond.codeWith y b L r hh ∈ lw_all) : GoodIn lw_all (va_wsS own idx y (wsW_ y b L r hh)) := by
  refine lw_app ?_ (lw_methW h4)
  intro w hw
  simp only [List.mem_cons, List.not_mem_nil, or_false] at hw
  rcases hw with e | e | e
  · rw [e]; exact h1
  · rw [e]; exact h2
  · rw [e]; exact h3
/-- a word by its place in its run of the tables -/
theorem lw_at {r : List Cond} (hr : ∀ w ∈ r, w ∈ lw_tbl) {w : Cond} (i : Nat) (h : r[i]? = some w) : w ∈ lw_tbl := hr w (List.mem_of_getElem? h)
theorem lw_g {w : Cond} (h : w ∈ lw_tbl) (g : goodWord w = true) : w ∈ lw_all := List.mem_filter.mpr ⟨h, g⟩
theorem lw_ms : ∀ w ∈ k2_sels lw_privs, w ∈ lw_tbl := fun w h => show w ∈ k2_sels lw_privs ++ tables_1 from List.mem_append_left _ h
theorem lw_m1 : ∀ w ∈ tables_1_1, w ∈ lw_tbl := fun w h => show w ∈ k2_sels lw_privs ++ tables_1 from List.mem_append_right (k2_sels lw_privs) (show w ∈ tables_1 from List.mem_append_left _ h)
theorem lw_m2 : ∀ w ∈ tables_1_2, w ∈ lw_tbl := fun w h => show w ∈ k2_sels lw_privs ++ tables_1 from List.mem_append_right (k2_sels lw_privs) (show w ∈ tables_1 from List.mem_append_right _ h)
theorem qs0 : (Cond.selects "AffineAligner" ⟨"AffineAligner", "fillFront", "(I)V"⟩ ⟨"AffineAligner", "fillFront", "(I)V"⟩) ∈ lw_all := lw_g (lw_at lw_ms 0 rfl) rfl
theorem qs1 : (Cond.selects "AffineAligner" ⟨"AffineAligner", "fillCell", "(II)V"⟩ ⟨"AffineAligner", "fillCell", "(II)V"⟩) ∈ lw_all := lw_g (lw_at lw_ms 1 rfl) rfl
theorem qs2 : (Cond.selects "AffineAligner" ⟨"AffineAligner", "mayBegin", "(II)Z"⟩ ⟨"AffineAligner", "mayBegin", "(II)Z"⟩) ∈ lw_all := lw_g (lw_at lw_ms 2 rfl) rfl
theorem qs3 : (Cond.selects "AffineAligner" ⟨"AffineAligner", "offer", "(IIII)V"⟩ ⟨"AffineAligner", "offer", "(IIII)V"⟩) ∈ lw_all := lw_g (lw_at lw_ms 3 rfl) rfl
theorem qs4 : (Cond.selects "AffineAligner" ⟨"AffineAligner", "gain", "(II)I"⟩ ⟨"AffineAligner", "gain", "(II)I"⟩) ∈ lw_all := lw_g (lw_at lw_ms 4 rfl) rfl
theorem qs5 : (Cond.selects "AffineAligner" ⟨"AffineAligner", "extend", "(IIII)V"⟩ ⟨"AffineAligner", "extend", "(IIII)V"⟩) ∈ lw_all := lw_g (lw_at lw_ms 5 rfl) rfl
theorem qs6 : (Cond.selects "AffineAligner" ⟨"AffineAligner", "costOf", "(II)I"⟩ ⟨"AffineAligner", "costOf", "(II)I"⟩) ∈ lw_all := lw_g (lw_at lw_ms 6 rfl) rfl
theorem qs7 : (Cond.selects "AffineAligner" ⟨"AffineAligner", "bestAt", "(II)I"⟩ ⟨"AffineAligner", "bestAt", "(II)I"⟩) ∈ lw_all := lw_g (lw_at lw_ms 7 rfl) rfl
theorem qs8 : (Cond.selects "AffineAligner" ⟨"AffineAligner", "findFirst", "()V"⟩ ⟨"AffineAligner", "findFirst", "()V"⟩) ∈ lw_all := lw_g (lw_at lw_ms 8 rfl) rfl
theorem qs9 : (Cond.selects "AffineAligner" ⟨"AffineAligner", "fillBehind", "()V"⟩ ⟨"AffineAligner", "fillBehind", "()V"⟩) ∈ lw_all := lw_g (lw_at lw_ms 9 rfl) rfl
theorem qs10 : (Cond.selects "AffineAligner" ⟨"AffineAligner", "restAfter", "(III)I"⟩ ⟨"AffineAligner", "restAfter", "(III)I"⟩) ∈ lw_all := lw_g (lw_at lw_ms 10 rfl) rfl
theorem qs11 : (Cond.selects "AffineAligner" ⟨"AffineAligner", "withColumn", "(IIII)I"⟩ ⟨"AffineAligner", "withColumn", "(IIII)I"⟩) ∈ lw_all := lw_g (lw_at lw_ms 11 rfl) rfl
theorem qs12 : (Cond.selects "AffineAlignerModel" ⟨"AffineAlignerModel", "work", "(III)V"⟩ ⟨"AffineAlignerModel", "work", "(III)V"⟩) ∈ lw_all := lw_g (lw_at lw_ms 12 rfl) rfl
theorem qs13 : (Cond.selects "AffineAlignerModel" ⟨"AffineAlignerModel", "fill", "(IIIIII)V"⟩ ⟨"AffineAlignerModel", "fill", "(IIIIII)V"⟩) ∈ lw_all := lw_g (lw_at lw_ms 13 rfl) rfl
theorem qs14 : (Cond.selects "AffineAlignerModel" ⟨"AffineAlignerModel", "offer", "(III)V"⟩ ⟨"AffineAlignerModel", "offer", "(III)V"⟩) ∈ lw_all := lw_g (lw_at lw_ms 14 rfl) rfl
theorem qs15 : (Cond.selects "AffineAlignerModel" ⟨"AffineAlignerModel", "gain", "(II)I"⟩ ⟨"AffineAlignerModel", "gain", "(II)I"⟩) ∈ lw_all := lw_g (lw_at lw_ms 15 rfl) rfl
theorem qs16 : (Cond.selects "AffineAlignerModel" ⟨"AffineAlignerModel", "walk", "(I)I"⟩ ⟨"AffineAlignerModel", "walk", "(I)I"⟩) ∈ lw_all := lw_g (lw_at lw_ms 16 rfl) rfl
theorem qs17 : (Cond.selects "AffineAlignerModel" ⟨"AffineAlignerModel", "sort", "(III)I"⟩ ⟨"AffineAlignerModel", "sort", "(III)I"⟩) ∈ lw_all := lw_g (lw_at lw_ms 17 rfl) rfl
theorem qs18 : (Cond.selects "AffineAlignerModel" ⟨"AffineAlignerModel", "rest", "(III)I"⟩ ⟨"AffineAlignerModel", "rest", "(III)I"⟩) ∈ lw_all := lw_g (lw_at lw_ms 18 rfl) rfl
end
section
set_option maxRecDepth 100000
/-! AffineAligner -/
def RX0 : String := "AffineAligner"
def TX0 : u_T := fun k => match k with
  | 0 => ("AffineAligner", "count", "[B", true)
  | 1 => ("AffineAligner", "letters", "[B", true)
  | 2 => ("AffineAligner", "gainEqual", "I", false)
  | 3 => ("AffineAligner", "gainUnequal", "I", false)
  | 4 => ("AffineAligner", "opening", "I", false)
  | 5 => ("AffineAligner", "lengthening", "I", false)
  | 6 => ("AffineAligner", "front", "[I", true)
  | 7 => ("AffineAligner", "frontWays", "[I", true)
  | 8 => ("AffineAligner", "behind", "[I", true)
  | 9 => ("AffineAligner", "freedom", "I", false)
  | 10 => ("AffineAligner", "columnCount", "I", false)
  | _ => ("AffineAligner", "columnSorts", "[B", true)
def tyX0 : Nat → FieldType := fun k => match k with
  | 0 => .array .byte
  | 1 => .array .byte
  | 2 => .int
  | 3 => .int
  | 4 => .int
  | 5 => .int
  | 6 => .array .int
  | 7 => .array .int
  | 8 => .array .int
  | 9 => .int
  | 10 => .int
  | _ => .array .byte
abbrev wsX00 : List Cond := u_ws RX0 TX0 12
theorem nmX0 : ∀ a, a < 12 → ∀ b, b < 12 → a ≠ b → (TX0 a).2.1 ≠ (TX0 b).2.1 := by decide +kernel
theorem tyX0_ok : ∀ k, k < 12 → parseFieldDescriptor (TX0 k).2.2.1 = some (tyX0 k) := by decide +kernel
abbrev cX0_init : ByteArray := prog_1_method_1_code
def yX0_init : MethodName := ⟨RX0, "<init>", "()V"⟩
abbrev cX0_type : ByteArray := prog_1_method_2_code
def yX0_type : MethodName := ⟨RX0, "type", "(II)I"⟩
abbrev cX0_wipe : ByteArray := prog_1_method_3_code
def yX0_wipe : MethodName := ⟨RX0, "wipe", "(I)I"⟩
abbrev cX0_rules : ByteArray := prog_1_method_4_code
def yX0_rules : MethodName := ⟨RX0, "rules", "(IIII)Z"⟩
abbrev cX0_best : ByteArray := prog_1_method_6_code
def yX0_best : MethodName := ⟨RX0, "best", "()I"⟩
abbrev cX0_fillFront : ByteArray := prog_1_method_16_code
def yX0_fillFront : MethodName := ⟨RX0, "fillFront", "(I)V"⟩
abbrev cX0_fillCell : ByteArray := prog_1_method_17_code
def yX0_fillCell : MethodName := ⟨RX0, "fillCell", "(II)V"⟩
abbrev cX0_mayBegin : ByteArray := prog_1_method_15_code
def yX0_mayBegin : MethodName := ⟨RX0, "mayBegin", "(II)Z"⟩
abbrev cX0_offer : ByteArray := prog_1_method_20_code
def yX0_offer : MethodName := ⟨RX0, "offer", "(IIII)V"⟩
abbrev cX0_gain : ByteArray := prog_1_method_5_code
def yX0_gain : MethodName := ⟨RX0, "gain", "(II)I"⟩
abbrev cX0_extend : ByteArray := prog_1_method_18_code
def yX0_extend : MethodName := ⟨RX0, "extend", "(IIII)V"⟩
abbrev cX0_costOf : ByteArray := prog_1_method_19_code
def yX0_costOf : MethodName := ⟨RX0, "costOf", "(II)I"⟩
abbrev cX0_bestAt : ByteArray := prog_1_method_14_code
def yX0_bestAt : MethodName := ⟨RX0, "bestAt", "(II)I"⟩
abbrev cX0_ways : ByteArray := prog_1_method_7_code
def yX0_ways : MethodName := ⟨RX0, "ways", "()I"⟩
abbrev cX0_column : ByteArray := prog_1_method_8_code
def yX0_column : MethodName := ⟨RX0, "column", "(I)I"⟩
abbrev cX0_findFirst : ByteArray := prog_1_method_24_code
def yX0_findFirst : MethodName := ⟨RX0, "findFirst", "()V"⟩
abbrev cX0_fillBehind : ByteArray := prog_1_method_21_code
def yX0_fillBehind : MethodName := ⟨RX0, "fillBehind", "()V"⟩
abbrev cX0_restAfter : ByteArray := prog_1_method_22_code
def yX0_restAfter : MethodName := ⟨RX0, "restAfter", "(III)I"⟩
abbrev cX0_withColumn : ByteArray := prog_1_method_23_code
def yX0_withColumn : MethodName := ⟨RX0, "withColumn", "(IIII)I"⟩
abbrev cX0_columns : ByteArray := prog_1_method_9_code
def yX0_columns : MethodName := ⟨RX0, "columns", "()I"⟩
abbrev cX0_local : ByteArray := prog_1_method_10_code
def yX0_local : MethodName := ⟨RX0, "local", "()I"⟩
abbrev cX0_fitted : ByteArray := prog_1_method_11_code
def yX0_fitted : MethodName := ⟨RX0, "fitted", "()I"⟩
abbrev cX0_overlap : ByteArray := prog_1_method_12_code
def yX0_overlap : MethodName := ⟨RX0, "overlap", "()I"⟩
abbrev cX0_paired : ByteArray := prog_1_method_13_code
def yX0_paired : MethodName := ⟨RX0, "paired", "(II)Z"⟩
/-! AffineAlignerModel -/
def RX1 : String := "AffineAlignerModel"
def TX1 : u_T := fun k => match k with
  | 0 => ("AffineAlignerModel", "letters", "[I", true)
  | 1 => ("AffineAlignerModel", "lengths", "[I", true)
  | 2 => ("AffineAlignerModel", "equal", "I", false)
  | 3 => ("AffineAlignerModel", "unequal", "I", false)
  | 4 => ("AffineAlignerModel", "opening", "I", false)
  | 5 => ("AffineAlignerModel", "lengthening", "I", false)
  | 6 => ("AffineAlignerModel", "scores", "[I", true)
  | _ => ("AffineAlignerModel", "counts", "[I", true)
def tyX1 : Nat → FieldType := fun k => match k with
  | 0 => .array .int
  | 1 => .array .int
  | 2 => .int
  | 3 => .int
  | 4 => .int
  | 5 => .int
  | 6 => .array .int
  | _ => .array .int
abbrev wsX10 : List Cond := u_ws RX1 TX1 8
theorem nmX1 : ∀ a, a < 8 → ∀ b, b < 8 → a ≠ b → (TX1 a).2.1 ≠ (TX1 b).2.1 := by decide +kernel
theorem tyX1_ok : ∀ k, k < 8 → parseFieldDescriptor (TX1 k).2.2.1 = some (tyX1 k) := by decide +kernel
abbrev cX1_init : ByteArray := prog_3_method_1_code
def yX1_init : MethodName := ⟨RX1, "<init>", "()V"⟩
abbrev cX1_type : ByteArray := prog_3_method_2_code
def yX1_type : MethodName := ⟨RX1, "type", "(II)I"⟩
abbrev cX1_wipe : ByteArray := prog_3_method_3_code
def yX1_wipe : MethodName := ⟨RX1, "wipe", "(I)I"⟩
abbrev cX1_rules : ByteArray := prog_3_method_4_code
def yX1_rules : MethodName := ⟨RX1, "rules", "(IIII)Z"⟩
abbrev cX1_best : ByteArray := prog_3_method_9_code
def yX1_best : MethodName := ⟨RX1, "best", "()I"⟩
abbrev cX1_work : ByteArray := prog_3_method_8_code
def yX1_work : MethodName := ⟨RX1, "work", "(III)V"⟩
abbrev cX1_fill : ByteArray := prog_3_method_7_code
def yX1_fill : MethodName := ⟨RX1, "fill", "(IIIIII)V"⟩
abbrev cX1_offer : ByteArray := prog_3_method_6_code
def yX1_offer : MethodName := ⟨RX1, "offer", "(III)V"⟩
abbrev cX1_gain : ByteArray := prog_3_method_5_code
def yX1_gain : MethodName := ⟨RX1, "gain", "(II)I"⟩
abbrev cX1_ways : ByteArray := prog_3_method_10_code
def yX1_ways : MethodName := ⟨RX1, "ways", "()I"⟩
abbrev cX1_column : ByteArray := prog_3_method_14_code
def yX1_column : MethodName := ⟨RX1, "column", "(I)I"⟩
abbrev cX1_walk : ByteArray := prog_3_method_13_code
def yX1_walk : MethodName := ⟨RX1, "walk", "(I)I"⟩
abbrev cX1_sort : ByteArray := prog_3_method_12_code
def yX1_sort : MethodName := ⟨RX1, "sort", "(III)I"⟩
abbrev cX1_rest : ByteArray := prog_3_method_11_code
def yX1_rest : MethodName := ⟨RX1, "rest", "(III)I"⟩
abbrev cX1_columns : ByteArray := prog_3_method_15_code
def yX1_columns : MethodName := ⟨RX1, "columns", "()I"⟩
abbrev cX1_local : ByteArray := prog_3_method_16_code
def yX1_local : MethodName := ⟨RX1, "local", "()I"⟩
abbrev cX1_fitted : ByteArray := prog_3_method_17_code
def yX1_fitted : MethodName := ⟨RX1, "fitted", "()I"⟩
abbrev cX1_overlap : ByteArray := prog_3_method_18_code
def yX1_overlap : MethodName := ⟨RX1, "overlap", "()I"⟩
abbrev cX1_paired : ByteArray := prog_3_method_19_code
def yX1_paired : MethodName := ⟨RX1, "paired", "(II)Z"⟩
/-! java/lang/Object -/
def RJ0 : String := "java/lang/Object"
abbrev cJ0_init : ByteArray := object_method_1_code
def yJ0_init : MethodName := ⟨RJ0, "<init>", "()V"⟩
theorem dJ0_init_0 : decode cJ0_init 0 = .ok (.return_, 1) := by decide +kernel
end
section
set_option maxRecDepth 100000
theorem q20 : (Jvm.Cond.initialized "AffineAligner") ∈ lw_all := lw_g (lw_at lw_m1 1 rfl) rfl
theorem q23 : (Jvm.Cond.instantiable "AffineAligner" (12 : Nat)) ∈ lw_all := lw_g (lw_at lw_m1 4 rfl) rfl
theorem q25 : (Jvm.Cond.instanceMethod ({ cls := "AffineAligner", name := "<init>", desc := "()V" } : Jvm.MethodName)) ∈ lw_all := lw_g (lw_at lw_m1 6 rfl) rfl
theorem q26 : (Jvm.Cond.code ({ cls := "AffineAligner", name := "<init>", desc := "()V" } : Jvm.MethodName) prog_1_method_1_code (1 : Nat) (Option.none : Option Jvm.ClassFile.FieldType)) ∈ lw_all := lw_g (lw_at lw_m1 7 rfl) rfl
theorem q27 : (Jvm.Cond.methodLink "AffineAligner" (1 : Nat) ({ cls := "java/lang/Object", name := "<init>", desc := "()V" } : Jvm.MethodName)) ∈ lw_all := lw_g (lw_at lw_m1 8 rfl) rfl
theorem q30 : (Jvm.Cond.fieldLink "AffineAligner" (7 : Nat) "AffineAligner" "count" "[B") ∈ lw_all := lw_g (lw_at lw_m1 11 rfl) rfl
theorem q31 : (Jvm.Cond.fieldLink "AffineAligner" (13 : Nat) "AffineAligner" "letters" "[B") ∈ lw_all := lw_g (lw_at lw_m1 12 rfl) rfl
theorem q32 : (Jvm.Cond.fieldLink "AffineAligner" (29 : Nat) "AffineAligner" "gainEqual" "I") ∈ lw_all := lw_g (lw_at lw_m1 13 rfl) rfl
theorem q33 : (Jvm.Cond.fieldLink "AffineAligner" (33 : Nat) "AffineAligner" "gainUnequal" "I") ∈ lw_all := lw_g (lw_at lw_m1 14 rfl) rfl
theorem q34 : (Jvm.Cond.fieldLink "AffineAligner" (36 : Nat) "AffineAligner" "opening" "I") ∈ lw_all := lw_g (lw_at lw_m1 15 rfl) rfl
theorem q35 : (Jvm.Cond.fieldLink "AffineAligner" (39 : Nat) "AffineAligner" "lengthening" "I") ∈ lw_all := lw_g (lw_at lw_m1 16 rfl) rfl
theorem q36 : (Jvm.Cond.fieldLink "AffineAligner" (16 : Nat) "AffineAligner" "front" "[I") ∈ lw_all := lw_g (lw_at lw_m1 17 rfl) rfl
theorem q37 : (Jvm.Cond.fieldLink "AffineAligner" (20 : Nat) "AffineAligner" "frontWays" "[I") ∈ lw_all := lw_g (lw_at lw_m1 18 rfl) rfl
theorem q38 : (Jvm.Cond.fieldLink "AffineAligner" (23 : Nat) "AffineAligner" "behind" "[I") ∈ lw_all := lw_g (lw_at lw_m1 19 rfl) rfl
theorem q39 : (Jvm.Cond.fieldLink "AffineAligner" (67 : Nat) "AffineAligner" "freedom" "I") ∈ lw_all := lw_g (lw_at lw_m1 20 rfl) rfl
theorem q40 : (Jvm.Cond.fieldLink "AffineAligner" (57 : Nat) "AffineAligner" "columnCount" "I") ∈ lw_all := lw_g (lw_at lw_m1 21 rfl) rfl
theorem q41 : (Jvm.Cond.fieldLink "AffineAligner" (26 : Nat) "AffineAligner" "columnSorts" "[B") ∈ lw_all := lw_g (lw_at lw_m1 22 rfl) rfl
theorem q42 : (Jvm.Cond.laysFinal "AffineAligner" "AffineAligner" "count" "[B") ∈ lw_all := lw_g (lw_at lw_m1 23 rfl) rfl
theorem q43 : (Jvm.Cond.soleField "AffineAligner" "count") ∈ lw_all := lw_g (lw_at lw_m1 24 rfl) rfl
theorem q44 : (Jvm.Cond.laysFinal "AffineAligner" "AffineAligner" "letters" "[B") ∈ lw_all := lw_g (lw_at lw_m1 25 rfl) rfl
theorem q45 : (Jvm.Cond.soleField "AffineAligner" "letters") ∈ lw_all := lw_g (lw_at lw_m1 26 rfl) rfl
theorem q46 : (Jvm.Cond.lays "AffineAligner" "AffineAligner" "gainEqual" "I") ∈ lw_all := lw_g (lw_at lw_m1 27 rfl) rfl
theorem q47 : (Jvm.Cond.soleField "AffineAligner" "gainEqual") ∈ lw_all := lw_g (lw_at lw_m1 28 rfl) rfl
theorem q48 : (Jvm.Cond.lays "AffineAligner" "AffineAligner" "gainUnequal" "I") ∈ lw_all := lw_g (lw_at lw_m1 29 rfl) rfl
theorem q49 : (Jvm.Cond.soleField "AffineAligner" "gainUnequal") ∈ lw_all := lw_g (lw_at lw_m1 30 rfl) rfl
theorem q50 : (Jvm.Cond.lays "AffineAligner" "AffineAligner" "opening" "I") ∈ lw_all := lw_g (lw_at lw_m1 31 rfl) rfl
theorem q51 : (Jvm.Cond.soleField "AffineAligner" "opening") ∈ lw_all := lw_g (lw_at lw_m1 32 rfl) rfl
theorem q52 : (Jvm.Cond.lays "AffineAligner" "AffineAligner" "lengthening" "I") ∈ lw_all := lw_g (lw_at lw_m1 33 rfl) rfl
theorem q53 : (Jvm.Cond.soleField "AffineAligner" "lengthening") ∈ lw_all := lw_g (lw_at lw_m1 34 rfl) rfl
theorem q54 : (Jvm.Cond.laysFinal "AffineAligner" "AffineAligner" "front" "[I") ∈ lw_all := lw_g (lw_at lw_m1 35 rfl) rfl
theorem q55 : (Jvm.Cond.soleField "AffineAligner" "front") ∈ lw_all := lw_g (lw_at lw_m1 36 rfl) rfl
theorem q56 : (Jvm.Cond.laysFinal "AffineAligner" "AffineAligner" "frontWays" "[I") ∈ lw_all := lw_g (lw_at lw_m1 37 rfl) rfl
theorem q57 : (Jvm.Cond.soleField "AffineAligner" "frontWays") ∈ lw_all := lw_g (lw_at lw_m1 38 rfl) rfl
theorem q58 : (Jvm.Cond.laysFinal "AffineAligner" "AffineAligner" "behind" "[I") ∈ lw_all := lw_g (lw_at lw_m1 39 rfl) rfl
theorem q59 : (Jvm.Cond.soleField "AffineAligner" "behind") ∈ lw_all := lw_g (lw_at lw_m1 40 rfl) rfl
theorem q60 : (Jvm.Cond.lays "AffineAligner" "AffineAligner" "freedom" "I") ∈ lw_all := lw_g (lw_at lw_m1 41 rfl) rfl
theorem q61 : (Jvm.Cond.soleField "AffineAligner" "freedom") ∈ lw_all := lw_g (lw_at lw_m1 42 rfl) rfl
theorem q62 : (Jvm.Cond.lays "AffineAligner" "AffineAligner" "columnCount" "I") ∈ lw_all := lw_g (lw_at lw_m1 43 rfl) rfl
theorem q63 : (Jvm.Cond.soleField "AffineAligner" "columnCount") ∈ lw_all := lw_g (lw_at lw_m1 44 rfl) rfl
theorem q64 : (Jvm.Cond.laysFinal "AffineAligner" "AffineAligner" "columnSorts" "[B") ∈ lw_all := lw_g (lw_at lw_m1 45 rfl) rfl
theorem q65 : (Jvm.Cond.soleField "AffineAligner" "columnSorts") ∈ lw_all := lw_g (lw_at lw_m1 46 rfl) rfl
theorem q66 : (Jvm.Cond.superclass "AffineAligner" "java/lang/Object") ∈ lw_all := lw_g (lw_at lw_m1 47 rfl) rfl
theorem q70 : (Jvm.Cond.instanceMethod ({ cls := "AffineAligner", name := "type", desc := "(II)I" } : Jvm.MethodName)) ∈ lw_all := lw_g (lw_at lw_m1 51 rfl) rfl
theorem q71 : (Jvm.Cond.selects "AffineAligner" ({ cls := "AffineAligner", name := "type", desc := "(II)I" } : Jvm.MethodName) ({ cls := "AffineAligner", name := "type", desc := "(II)I" } : Jvm.MethodName)) ∈ lw_all := lw_g (lw_at lw_m1 52 rfl) rfl
theorem q72 : (Jvm.Cond.code ({ cls := "AffineAligner", name := "type", desc := "(II)I" } : Jvm.MethodName) prog_1_method_2_code (3 : Nat) (Option.some Jvm.ClassFile.FieldType.int)) ∈ lw_all := lw_g (lw_at lw_m1 53 rfl) rfl
theorem q74 : (Jvm.Cond.instanceMethod ({ cls := "AffineAligner", name := "wipe", desc := "(I)I" } : Jvm.MethodName)) ∈ lw_all := lw_g (lw_at lw_m1 55 rfl) rfl
theorem q75 : (Jvm.Cond.selects "AffineAligner" ({ cls := "AffineAligner", name := "wipe", desc := "(I)I" } : Jvm.MethodName) ({ cls := "AffineAligner", name := "wipe", desc := "(I)I" } : Jvm.MethodName)) ∈ lw_all := lw_g (lw_at lw_m1 56 rfl) rfl
theorem q76 : (Jvm.Cond.code ({ cls := "AffineAligner", name := "wipe", desc := "(I)I" } : Jvm.MethodName) prog_1_method_3_code (3 : Nat) (Option.some Jvm.ClassFile.FieldType.int)) ∈ lw_all := lw_g (lw_at lw_m1 57 rfl) rfl
theorem q78 : (Jvm.Cond.instanceMethod ({ cls := "AffineAligner", name := "rules", desc := "(IIII)Z" } : Jvm.MethodName)) ∈ lw_all := lw_g (lw_at lw_m1 59 rfl) rfl
theorem q79 : (Jvm.Cond.selects "AffineAligner" ({ cls := "AffineAligner", name := "rules", desc := "(IIII)Z" } : Jvm.MethodName) ({ cls := "AffineAligner", name := "rules", desc := "(IIII)Z" } : Jvm.MethodName)) ∈ lw_all := lw_g (lw_at lw_m1 60 rfl) rfl
theorem q80 : (Jvm.Cond.code ({ cls := "AffineAligner", name := "rules", desc := "(IIII)Z" } : Jvm.MethodName) prog_1_method_4_code (5 : Nat) (Option.some Jvm.ClassFile.FieldType.boolean)) ∈ lw_all := lw_g (lw_at lw_m1 61 rfl) rfl
theorem q82 : (Jvm.Cond.instanceMethod ({ cls := "AffineAligner", name := "best", desc := "()I" } : Jvm.MethodName)) ∈ lw_all := lw_g (lw_at lw_m1 63 rfl) rfl
theorem q83 : (Jvm.Cond.selects "AffineAligner" ({ cls := "AffineAligner", name := "best", desc := "()I" } : Jvm.MethodName) ({ cls := "AffineAligner", name := "best", desc := "()I" } : Jvm.MethodName)) ∈ lw_all := lw_g (lw_at lw_m1 64 rfl) rfl
theorem q84 : (Jvm.Cond.code ({ cls := "AffineAligner", name := "best", desc := "()I" } : Jvm.MethodName) prog_1_method_6_code (1 : Nat) (Option.some Jvm.ClassFile.FieldType.int)) ∈ lw_all := lw_g (lw_at lw_m1 65 rfl) rfl
theorem q85 : (Jvm.Cond.methodLink "AffineAligner" (42 : Nat) ({ cls := "AffineAligner", name := "fillFront", desc := "(I)V" } : Jvm.MethodName)) ∈ lw_all := lw_g (lw_at lw_m1 66 rfl) rfl
theorem q86 : (Jvm.Cond.privateMethod ({ cls := "AffineAligner", name := "fillFront", desc := "(I)V" } : Jvm.MethodName)) ∈ lw_tbl := lw_at lw_m1 67 rfl
theorem q87 : (Jvm.Cond.instanceMethod ({ cls := "AffineAligner", name := "fillFront", desc := "(I)V" } : Jvm.MethodName)) ∈ lw_all := lw_g (lw_at lw_m1 68 rfl) rfl
theorem q88 : (Jvm.Cond.code ({ cls := "AffineAligner", name := "fillFront", desc := "(I)V" } : Jvm.MethodName) prog_1_method_16_code (4 : Nat) (Option.none : Option Jvm.ClassFile.FieldType)) ∈ lw_all := lw_g (lw_at lw_m1 69 rfl) rfl
theorem q89 : (Jvm.Cond.methodLink "AffineAligner" (70 : Nat) ({ cls := "AffineAligner", name := "fillCell", desc := "(II)V" } : Jvm.MethodName)) ∈ lw_all := lw_g (lw_at lw_m1 70 rfl) rfl
theorem q90 : (Jvm.Cond.privateMethod ({ cls := "AffineAligner", name := "fillCell", desc := "(II)V" } : Jvm.MethodName)) ∈ lw_tbl := lw_at lw_m1 71 rfl
theorem q91 : (Jvm.Cond.instanceMethod ({ cls := "AffineAligner", name := "fillCell", desc := "(II)V" } : Jvm.MethodName)) ∈ lw_all := lw_g (lw_at lw_m1 72 rfl) rfl
theorem q92 : (Jvm.Cond.code ({ cls := "AffineAligner", name := "fillCell", desc := "(II)V" } : Jvm.MethodName) prog_1_method_17_code (5 : Nat) (Option.none : Option Jvm.ClassFile.FieldType)) ∈ lw_all := lw_g (lw_at lw_m1 73 rfl) rfl
theorem q93 : (Jvm.Cond.constant "AffineAligner" (60 : Nat) (-100000 : Int32)) ∈ lw_all := lw_g (lw_at lw_m1 74 rfl) rfl
theorem q94 : (Jvm.Cond.methodLink "AffineAligner" (74 : Nat) ({ cls := "AffineAligner", name := "mayBegin", desc := "(II)Z" } : Jvm.MethodName)) ∈ lw_all := lw_g (lw_at lw_m1 75 rfl) rfl
theorem q95 : (Jvm.Cond.privateMethod ({ cls := "AffineAligner", name := "mayBegin", desc := "(II)Z" } : Jvm.MethodName)) ∈ lw_tbl := lw_at lw_m1 76 rfl
theorem q96 : (Jvm.Cond.instanceMethod ({ cls := "AffineAligner", name := "mayBegin", desc := "(II)Z" } : Jvm.MethodName)) ∈ lw_all := lw_g (lw_at lw_m1 77 rfl) rfl
theorem q97 : (Jvm.Cond.code ({ cls := "AffineAligner", name := "mayBegin", desc := "(II)Z" } : Jvm.MethodName) prog_1_method_15_code (3 : Nat) (Option.some Jvm.ClassFile.FieldType.boolean)) ∈ lw_all := lw_g (lw_at lw_m1 78 rfl) rfl
theorem q98 : (Jvm.Cond.methodLink "AffineAligner" (78 : Nat) ({ cls := "AffineAligner", name := "offer", desc := "(IIII)V" } : Jvm.MethodName)) ∈ lw_all := lw_g (lw_at lw_m1 79 rfl) rfl
theorem q99 : (Jvm.Cond.privateMethod ({ cls := "AffineAligner", name := "offer", desc := "(IIII)V" } : Jvm.MethodName)) ∈ lw_tbl := lw_at lw_m1 80 rfl
theorem q100 : (Jvm.Cond.instanceMethod ({ cls := "AffineAligner", name := "offer", desc := "(IIII)V" } : Jvm.MethodName)) ∈ lw_all := lw_g (lw_at lw_m1 81 rfl) rfl
theorem q101 : (Jvm.Cond.code ({ cls := "AffineAligner", name := "offer", desc := "(IIII)V" } : Jvm.MethodName) prog_1_method_20_code (6 : Nat) (Option.none : Option Jvm.ClassFile.FieldType)) ∈ lw_all := lw_g (lw_at lw_m1 82 rfl) rfl
theorem q102 : (Jvm.Cond.methodLink "AffineAligner" (64 : Nat) ({ cls := "AffineAligner", name := "gain", desc := "(II)I" } : Jvm.MethodName)) ∈ lw_all := lw_g (lw_at lw_m1 83 rfl) rfl
theorem q103 : (Jvm.Cond.privateMethod ({ cls := "AffineAligner", name := "gain", desc := "(II)I" } : Jvm.MethodName)) ∈ lw_tbl := lw_at lw_m1 84 rfl
theorem q104 : (Jvm.Cond.instanceMethod ({ cls := "AffineAligner", name := "gain", desc := "(II)I" } : Jvm.MethodName)) ∈ lw_all := lw_g (lw_at lw_m1 85 rfl) rfl
theorem q105 : (Jvm.Cond.code ({ cls := "AffineAligner", name := "gain", desc := "(II)I" } : Jvm.MethodName) prog_1_method_5_code (3 : Nat) (Option.some Jvm.ClassFile.FieldType.int)) ∈ lw_all := lw_g (lw_at lw_m1 86 rfl) rfl
theorem q106 : (Jvm.Cond.methodLink "AffineAligner" (82 : Nat) ({ cls := "AffineAligner", name := "extend", desc := "(IIII)V" } : Jvm.MethodName)) ∈ lw_all := lw_g (lw_at lw_m1 87 rfl) rfl
theorem q107 : (Jvm.Cond.privateMethod ({ cls := "AffineAligner", name := "extend", desc := "(IIII)V" } : Jvm.MethodName)) ∈ lw_tbl := lw_at lw_m1 88 rfl
theorem q108 : (Jvm.Cond.instanceMethod ({ cls := "AffineAligner", name := "extend", desc := "(IIII)V" } : Jvm.MethodName)) ∈ lw_all := lw_g (lw_at lw_m1 89 rfl) rfl
theorem q109 : (Jvm.Cond.code ({ cls := "AffineAligner", name := "extend", desc := "(IIII)V" } : Jvm.MethodName) prog_1_method_18_code (8 : Nat) (Option.none : Option Jvm.ClassFile.FieldType)) ∈ lw_all := lw_g (lw_at lw_m1 90 rfl) rfl
theorem q110 : (Jvm.Cond.methodLink "AffineAligner" (85 : Nat) ({ cls := "AffineAligner", name := "costOf", desc := "(II)I" } : Jvm.MethodName)) ∈ lw_all := lw_g (lw_at lw_m1 91 rfl) rfl
theorem q111 : (Jvm.Cond.privateMethod ({ cls := "AffineAligner", name := "costOf", desc := "(II)I" } : Jvm.MethodName)) ∈ lw_tbl := lw_at lw_m1 92 rfl
theorem q112 : (Jvm.Cond.instanceMethod ({ cls := "AffineAligner", name := "costOf", desc := "(II)I" } : Jvm.MethodName)) ∈ lw_all := lw_g (lw_at lw_m1 93 rfl) rfl
theorem q113 : (Jvm.Cond.code ({ cls := "AffineAligner", name := "costOf", desc := "(II)I" } : Jvm.MethodName) prog_1_method_19_code (3 : Nat) (Option.some Jvm.ClassFile.FieldType.int)) ∈ lw_all := lw_g (lw_at lw_m1 94 rfl) rfl
theorem q114 : (Jvm.Cond.methodLink "AffineAligner" (46 : Nat) ({ cls := "AffineAligner", name := "bestAt", desc := "(II)I" } : Jvm.MethodName)) ∈ lw_all := lw_g (lw_at lw_m1 95 rfl) rfl
theorem q115 : (Jvm.Cond.privateMethod ({ cls := "AffineAligner", name := "bestAt", desc := "(II)I" } : Jvm.MethodName)) ∈ lw_tbl := lw_at lw_m1 96 rfl
theorem q116 : (Jvm.Cond.instanceMethod ({ cls := "AffineAligner", name := "bestAt", desc := "(II)I" } : Jvm.MethodName)) ∈ lw_all := lw_g (lw_at lw_m1 97 rfl) rfl
theorem q117 : (Jvm.Cond.code ({ cls := "AffineAligner", name := "bestAt", desc := "(II)I" } : Jvm.MethodName) prog_1_method_14_code (5 : Nat) (Option.some Jvm.ClassFile.FieldType.int)) ∈ lw_all := lw_g (lw_at lw_m1 98 rfl) rfl
theorem q119 : (Jvm.Cond.instanceMethod ({ cls := "AffineAligner", name := "ways", desc := "()I" } : Jvm.MethodName)) ∈ lw_all := lw_g (lw_at lw_m1 100 rfl) rfl
theorem q120 : (Jvm.Cond.selects "AffineAligner" ({ cls := "AffineAligner", name := "ways", desc := "()I" } : Jvm.MethodName) ({ cls := "AffineAligner", name := "ways", desc := "()I" } : Jvm.MethodName)) ∈ lw_all := lw_g (lw_at lw_m1 101 rfl) rfl
theorem q121 : (Jvm.Cond.code ({ cls := "AffineAligner", name := "ways", desc := "()I" } : Jvm.MethodName) prog_1_method_7_code (5 : Nat) (Option.some Jvm.ClassFile.FieldType.int)) ∈ lw_all := lw_g (lw_at lw_m1 102 rfl) rfl
theorem q122 : (Jvm.Cond.methodLink "AffineAligner" (50 : Nat) ({ cls := "AffineAligner", name := "best", desc := "()I" } : Jvm.MethodName)) ∈ lw_all := lw_g (lw_at lw_m1 103 rfl) rfl
theorem q124 : (Jvm.Cond.instanceMethod ({ cls := "AffineAligner", name := "column", desc := "(I)I" } : Jvm.MethodName)) ∈ lw_all := lw_g (lw_at lw_m1 105 rfl) rfl
theorem q125 : (Jvm.Cond.selects "AffineAligner" ({ cls := "AffineAligner", name := "column", desc := "(I)I" } : Jvm.MethodName) ({ cls := "AffineAligner", name := "column", desc := "(I)I" } : Jvm.MethodName)) ∈ lw_all := lw_g (lw_at lw_m1 106 rfl) rfl
theorem q126 : (Jvm.Cond.code ({ cls := "AffineAligner", name := "column", desc := "(I)I" } : Jvm.MethodName) prog_1_method_8_code (2 : Nat) (Option.some Jvm.ClassFile.FieldType.int)) ∈ lw_all := lw_g (lw_at lw_m1 107 rfl) rfl
theorem q127 : (Jvm.Cond.methodLink "AffineAligner" (54 : Nat) ({ cls := "AffineAligner", name := "findFirst", desc := "()V" } : Jvm.MethodName)) ∈ lw_all := lw_g (lw_at lw_m1 108 rfl) rfl
theorem q128 : (Jvm.Cond.privateMethod ({ cls := "AffineAligner", name := "findFirst", desc := "()V" } : Jvm.MethodName)) ∈ lw_tbl := lw_at lw_m1 109 rfl
theorem q129 : (Jvm.Cond.instanceMethod ({ cls := "AffineAligner", name := "findFirst", desc := "()V" } : Jvm.MethodName)) ∈ lw_all := lw_g (lw_at lw_m1 110 rfl) rfl
theorem q130 : (Jvm.Cond.code ({ cls := "AffineAligner", name := "findFirst", desc := "()V" } : Jvm.MethodName) prog_1_method_24_code (6 : Nat) (Option.none : Option Jvm.ClassFile.FieldType)) ∈ lw_all := lw_g (lw_at lw_m1 111 rfl) rfl
theorem q131 : (Jvm.Cond.methodLink "AffineAligner" (61 : Nat) ({ cls := "AffineAligner", name := "fillBehind", desc := "()V" } : Jvm.MethodName)) ∈ lw_all := lw_g (lw_at lw_m1 112 rfl) rfl
theorem q132 : (Jvm.Cond.privateMethod ({ cls := "AffineAligner", name := "fillBehind", desc := "()V" } : Jvm.MethodName)) ∈ lw_tbl := lw_at lw_m1 113 rfl
theorem q133 : (Jvm.Cond.instanceMethod ({ cls := "AffineAligner", name := "fillBehind", desc := "()V" } : Jvm.MethodName)) ∈ lw_all := lw_g (lw_at lw_m1 114 rfl) rfl
theorem q134 : (Jvm.Cond.code ({ cls := "AffineAligner", name := "fillBehind", desc := "()V" } : Jvm.MethodName) prog_1_method_21_code (4 : Nat) (Option.none : Option Jvm.ClassFile.FieldType)) ∈ lw_all := lw_g (lw_at lw_m1 115 rfl) rfl
theorem q135 : (Jvm.Cond.methodLink "AffineAligner" (88 : Nat) ({ cls := "AffineAligner", name := "restAfter", desc := "(III)I" } : Jvm.MethodName)) ∈ lw_all := lw_g (lw_at lw_m1 116 rfl) rfl
theorem q136 : (Jvm.Cond.privateMethod ({ cls := "AffineAligner", name := "restAfter", desc := "(III)I" } : Jvm.MethodName)) ∈ lw_tbl := lw_at lw_m1 117 rfl
theorem q137 : (Jvm.Cond.instanceMethod ({ cls := "AffineAligner", name := "restAfter", desc := "(III)I" } : Jvm.MethodName)) ∈ lw_all := lw_g (lw_at lw_m1 118 rfl) rfl
theorem q138 : (Jvm.Cond.code ({ cls := "AffineAligner", name := "restAfter", desc := "(III)I" } : Jvm.MethodName) prog_1_method_22_code (7 : Nat) (Option.some Jvm.ClassFile.FieldType.int)) ∈ lw_all := lw_g (lw_at lw_m1 119 rfl) rfl
theorem q139 : (Jvm.Cond.methodLink "AffineAligner" (92 : Nat) ({ cls := "AffineAligner", name := "withColumn", desc := "(IIII)I" } : Jvm.MethodName)) ∈ lw_all := lw_g (lw_at lw_m1 120 rfl) rfl
theorem q140 : (Jvm.Cond.privateMethod ({ cls := "AffineAligner", name := "withColumn", desc := "(IIII)I" } : Jvm.MethodName)) ∈ lw_tbl := lw_at lw_m1 121 rfl
theorem q141 : (Jvm.Cond.instanceMethod ({ cls := "AffineAligner", name := "withColumn", desc := "(IIII)I" } : Jvm.MethodName)) ∈ lw_all := lw_g (lw_at lw_m1 122 rfl) rfl
theorem q142 : (Jvm.Cond.code ({ cls := "AffineAligner", name := "withColumn", desc := "(IIII)I" } : Jvm.MethodName) prog_1_method_23_code (8 : Nat) (Option.some Jvm.ClassFile.FieldType.int)) ∈ lw_all := lw_g (lw_at lw_m1 123 rfl) rfl
theorem q144 : (Jvm.Cond.instanceMethod ({ cls := "AffineAligner", name := "columns", desc := "()I" } : Jvm.MethodName)) ∈ lw_all := lw_g (lw_at lw_m1 125 rfl) rfl
theorem q145 : (Jvm.Cond.selects "AffineAligner" ({ cls := "AffineAligner", name := "columns", desc := "()I" } : Jvm.MethodName) ({ cls := "AffineAligner", name := "columns", desc := "()I" } : Jvm.MethodName)) ∈ lw_all := lw_g (lw_at lw_m1 126 rfl) rfl
theorem q146 : (Jvm.Cond.code ({ cls := "AffineAligner", name := "columns", desc := "()I" } : Jvm.MethodName) prog_1_method_9_code (1 : Nat) (Option.some Jvm.ClassFile.FieldType.int)) ∈ lw_all := lw_g (lw_at lw_m1 127 rfl) rfl
theorem q148 : (Jvm.Cond.instanceMethod ({ cls := "AffineAligner", name := "local", desc := "()I" } : Jvm.MethodName)) ∈ lw_all := lw_g (lw_at lw_m1 129 rfl) rfl
theorem q149 : (Jvm.Cond.selects "AffineAligner" ({ cls := "AffineAligner", name := "local", desc := "()I" } : Jvm.MethodName) ({ cls := "AffineAligner", name := "local", desc := "()I" } : Jvm.MethodName)) ∈ lw_all := lw_g (lw_at lw_m1 130 rfl) rfl
theorem q150 : (Jvm.Cond.code ({ cls := "AffineAligner", name := "local", desc := "()I" } : Jvm.MethodName) prog_1_method_10_code (5 : Nat) (Option.some Jvm.ClassFile.FieldType.int)) ∈ lw_all := lw_g (lw_at lw_m1 131 rfl) rfl
theorem q152 : (Jvm.Cond.instanceMethod ({ cls := "AffineAligner", name := "fitted", desc := "()I" } : Jvm.MethodName)) ∈ lw_all := lw_g (lw_at lw_m1 133 rfl) rfl
theorem q153 : (Jvm.Cond.selects "AffineAligner" ({ cls := "AffineAligner", name := "fitted", desc := "()I" } : Jvm.MethodName) ({ cls := "AffineAligner", name := "fitted", desc := "()I" } : Jvm.MethodName)) ∈ lw_all := lw_g (lw_at lw_m1 134 rfl) rfl
theorem q154 : (Jvm.Cond.code ({ cls := "AffineAligner", name := "fitted", desc := "()I" } : Jvm.MethodName) prog_1_method_11_code (4 : Nat) (Option.some Jvm.ClassFile.FieldType.int)) ∈ lw_all := lw_g (lw_at lw_m1 135 rfl) rfl
theorem q156 : (Jvm.Cond.instanceMethod ({ cls := "AffineAligner", name := "overlap", desc := "()I" } : Jvm.MethodName)) ∈ lw_all := lw_g (lw_at lw_m1 137 rfl) rfl
theorem q157 : (Jvm.Cond.selects "AffineAligner" ({ cls := "AffineAligner", name := "overlap", desc := "()I" } : Jvm.MethodName) ({ cls := "AffineAligner", name := "overlap", desc := "()I" } : Jvm.MethodName)) ∈ lw_all := lw_g (lw_at lw_m1 138 rfl) rfl
theorem q158 : (Jvm.Cond.code ({ cls := "AffineAligner", name := "overlap", desc := "()I" } : Jvm.MethodName) prog_1_method_12_code (4 : Nat) (Option.some Jvm.ClassFile.FieldType.int)) ∈ lw_all := lw_g (lw_at lw_m1 139 rfl) rfl
theorem q160 : (Jvm.Cond.instanceMethod ({ cls := "AffineAligner", name := "paired", desc := "(II)Z" } : Jvm.MethodName)) ∈ lw_all := lw_g (lw_at lw_m1 141 rfl) rfl
theorem q161 : (Jvm.Cond.selects "AffineAligner" ({ cls := "AffineAligner", name := "paired", desc := "(II)Z" } : Jvm.MethodName) ({ cls := "AffineAligner", name := "paired", desc := "(II)Z" } : Jvm.MethodName)) ∈ lw_all := lw_g (lw_at lw_m1 142 rfl) rfl
theorem q162 : (Jvm.Cond.code ({ cls := "AffineAligner", name := "paired", desc := "(II)Z" } : Jvm.MethodName) prog_1_method_13_code (5 : Nat) (Option.some Jvm.ClassFile.FieldType.boolean)) ∈ lw_all := lw_g (lw_at lw_m1 143 rfl) rfl
theorem in_X0 : ∀ w ∈ wsX00, w ∈ lw_all := lw_in wsX00 [42, 44, 46, 48, 50, 52, 54, 56, 58, 60, 62, 64] (by decide +kernel) (by decide +kernel)
theorem q21 : (Jvm.Cond.initialized "AffineAlignerModel") ∈ lw_all := lw_g (lw_at lw_m1 2 rfl) rfl
theorem q164 : (Jvm.Cond.instantiable "AffineAlignerModel" (8 : Nat)) ∈ lw_all := lw_g (lw_at lw_m1 145 rfl) rfl
theorem q166 : (Jvm.Cond.instanceMethod ({ cls := "AffineAlignerModel", name := "<init>", desc := "()V" } : Jvm.MethodName)) ∈ lw_all := lw_g (lw_at lw_m1 147 rfl) rfl
theorem q167 : (Jvm.Cond.code ({ cls := "AffineAlignerModel", name := "<init>", desc := "()V" } : Jvm.MethodName) prog_3_method_1_code (1 : Nat) (Option.none : Option Jvm.ClassFile.FieldType)) ∈ lw_all := lw_g (lw_at lw_m1 148 rfl) rfl
theorem q168 : (Jvm.Cond.methodLink "AffineAlignerModel" (1 : Nat) ({ cls := "java/lang/Object", name := "<init>", desc := "()V" } : Jvm.MethodName)) ∈ lw_all := lw_g (lw_at lw_m1 149 rfl) rfl
theorem q169 : (Jvm.Cond.fieldLink "AffineAlignerModel" (7 : Nat) "AffineAlignerModel" "letters" "[I") ∈ lw_all := lw_g (lw_at lw_m1 150 rfl) rfl
theorem q170 : (Jvm.Cond.fieldLink "AffineAlignerModel" (13 : Nat) "AffineAlignerModel" "lengths" "[I") ∈ lw_all := lw_g (lw_at lw_m1 151 rfl) rfl
theorem q171 : (Jvm.Cond.fieldLink "AffineAlignerModel" (16 : Nat) "AffineAlignerModel" "equal" "I") ∈ lw_all := lw_g (lw_at lw_m1 152 rfl) rfl
theorem q172 : (Jvm.Cond.fieldLink "AffineAlignerModel" (20 : Nat) "AffineAlignerModel" "unequal" "I") ∈ lw_all := lw_g (lw_at lw_m1 153 rfl) rfl
theorem q173 : (Jvm.Cond.fieldLink "AffineAlignerModel" (23 : Nat) "AffineAlignerModel" "opening" "I") ∈ lw_all := lw_g (lw_at lw_m1 154 rfl) rfl
theorem q174 : (Jvm.Cond.fieldLink "AffineAlignerModel" (26 : Nat) "AffineAlignerModel" "lengthening" "I") ∈ lw_all := lw_g (lw_at lw_m1 155 rfl) rfl
theorem q175 : (Jvm.Cond.fieldLink "AffineAlignerModel" (29 : Nat) "AffineAlignerModel" "scores" "[I") ∈ lw_all := lw_g (lw_at lw_m1 156 rfl) rfl
theorem q176 : (Jvm.Cond.fieldLink "AffineAlignerModel" (32 : Nat) "AffineAlignerModel" "counts" "[I") ∈ lw_all := lw_g (lw_at lw_m1 157 rfl) rfl
theorem q177 : (Jvm.Cond.laysFinal "AffineAlignerModel" "AffineAlignerModel" "letters" "[I") ∈ lw_all := lw_g (lw_at lw_m1 158 rfl) rfl
theorem q178 : (Jvm.Cond.soleField "AffineAlignerModel" "letters") ∈ lw_all := lw_g (lw_at lw_m1 159 rfl) rfl
theorem q179 : (Jvm.Cond.laysFinal "AffineAlignerModel" "AffineAlignerModel" "lengths" "[I") ∈ lw_all := lw_g (lw_at lw_m1 160 rfl) rfl
theorem q180 : (Jvm.Cond.soleField "AffineAlignerModel" "lengths") ∈ lw_all := lw_g (lw_at lw_m1 161 rfl) rfl
theorem q181 : (Jvm.Cond.lays "AffineAlignerModel" "AffineAlignerModel" "equal" "I") ∈ lw_all := lw_g (lw_at lw_m1 162 rfl) rfl
theorem q182 : (Jvm.Cond.soleField "AffineAlignerModel" "equal") ∈ lw_all := lw_g (lw_at lw_m1 163 rfl) rfl
theorem q183 : (Jvm.Cond.lays "AffineAlignerModel" "AffineAlignerModel" "unequal" "I") ∈ lw_all := lw_g (lw_at lw_m1 164 rfl) rfl
theorem q184 : (Jvm.Cond.soleField "AffineAlignerModel" "unequal") ∈ lw_all := lw_g (lw_at lw_m1 165 rfl) rfl
theorem q185 : (Jvm.Cond.lays "AffineAlignerModel" "AffineAlignerModel" "opening" "I") ∈ lw_all := lw_g (lw_at lw_m1 166 rfl) rfl
theorem q186 : (Jvm.Cond.soleField "AffineAlignerModel" "opening") ∈ lw_all := lw_g (lw_at lw_m1 167 rfl) rfl
theorem q187 : (Jvm.Cond.lays "AffineAlignerModel" "AffineAlignerModel" "lengthening" "I") ∈ lw_all := lw_g (lw_at lw_m1 168 rfl) rfl
theorem q188 : (Jvm.Cond.soleField "AffineAlignerModel" "lengthening") ∈ lw_all := lw_g (lw_at lw_m1 169 rfl) rfl
theorem q189 : (Jvm.Cond.laysFinal "AffineAlignerModel" "AffineAlignerModel" "scores" "[I") ∈ lw_all := lw_g (lw_at lw_m1 170 rfl) rfl
theorem q190 : (Jvm.Cond.soleField "AffineAlignerModel" "scores") ∈ lw_all := lw_g (lw_at lw_m1 171 rfl) rfl
theorem q191 : (Jvm.Cond.laysFinal "AffineAlignerModel" "AffineAlignerModel" "counts" "[I") ∈ lw_all := lw_g (lw_at lw_m1 172 rfl) rfl
theorem q192 : (Jvm.Cond.soleField "AffineAlignerModel" "counts") ∈ lw_all := lw_g (lw_at lw_m1 173 rfl) rfl
theorem q193 : (Jvm.Cond.superclass "AffineAlignerModel" "java/lang/Object") ∈ lw_all := lw_g (lw_at lw_m1 174 rfl) rfl
theorem q195 : (Jvm.Cond.instanceMethod ({ cls := "AffineAlignerModel", name := "type", desc := "(II)I" } : Jvm.MethodName)) ∈ lw_all := lw_g (lw_at lw_m1 176 rfl) rfl
theorem q196 : (Jvm.Cond.selects "AffineAlignerModel" ({ cls := "AffineAlignerModel", name := "type", desc := "(II)I" } : Jvm.MethodName) ({ cls := "AffineAlignerModel", name := "type", desc := "(II)I" } : Jvm.MethodName)) ∈ lw_all := lw_g (lw_at lw_m1 177 rfl) rfl
theorem q197 : (Jvm.Cond.code ({ cls := "AffineAlignerModel", name := "type", desc := "(II)I" } : Jvm.MethodName) prog_3_method_2_code (3 : Nat) (Option.some Jvm.ClassFile.FieldType.int)) ∈ lw_all := lw_g (lw_at lw_m1 178 rfl) rfl
theorem q199 : (Jvm.Cond.instanceMethod ({ cls := "AffineAlignerModel", name := "wipe", desc := "(I)I" } : Jvm.MethodName)) ∈ lw_all := lw_g (lw_at lw_m1 180 rfl) rfl
theorem q200 : (Jvm.Cond.selects "AffineAlignerModel" ({ cls := "AffineAlignerModel", name := "wipe", desc := "(I)I" } : Jvm.MethodName) ({ cls := "AffineAlignerModel", name := "wipe", desc := "(I)I" } : Jvm.MethodName)) ∈ lw_all := lw_g (lw_at lw_m1 181 rfl) rfl
theorem q201 : (Jvm.Cond.code ({ cls := "AffineAlignerModel", name := "wipe", desc := "(I)I" } : Jvm.MethodName) prog_3_method_3_code (3 : Nat) (Option.some Jvm.ClassFile.FieldType.int)) ∈ lw_all := lw_g (lw_at lw_m1 182 rfl) rfl
theorem q203 : (Jvm.Cond.instanceMethod ({ cls := "AffineAlignerModel", name := "rules", desc := "(IIII)Z" } : Jvm.MethodName)) ∈ lw_all := lw_g (lw_at lw_m1 184 rfl) rfl
theorem q204 : (Jvm.Cond.selects "AffineAlignerModel" ({ cls := "AffineAlignerModel", name := "rules", desc := "(IIII)Z" } : Jvm.MethodName) ({ cls := "AffineAlignerModel", name := "rules", desc := "(IIII)Z" } : Jvm.MethodName)) ∈ lw_all := lw_g (lw_at lw_m1 185 rfl) rfl
theorem q205 : (Jvm.Cond.code ({ cls := "AffineAlignerModel", name := "rules", desc := "(IIII)Z" } : Jvm.MethodName) prog_3_method_4_code (5 : Nat) (Option.some Jvm.ClassFile.FieldType.boolean)) ∈ lw_all := lw_g (lw_at lw_m1 186 rfl) rfl
theorem q207 : (Jvm.Cond.instanceMethod ({ cls := "AffineAlignerModel", name := "best", desc := "()I" } : Jvm.MethodName)) ∈ lw_all := lw_g (lw_at lw_m1 188 rfl) rfl
theorem q208 : (Jvm.Cond.selects "AffineAlignerModel" ({ cls := "AffineAlignerModel", name := "best", desc := "()I" } : Jvm.MethodName) ({ cls := "AffineAlignerModel", name := "best", desc := "()I" } : Jvm.MethodName)) ∈ lw_all := lw_g (lw_at lw_m1 189 rfl) rfl
theorem q209 : (Jvm.Cond.code ({ cls := "AffineAlignerModel", name := "best", desc := "()I" } : Jvm.MethodName) prog_3_method_9_code (1 : Nat) (Option.some Jvm.ClassFile.FieldType.int)) ∈ lw_all := lw_g (lw_at lw_m1 190 rfl) rfl
theorem q210 : (Jvm.Cond.methodLink "AffineAlignerModel" (49 : Nat) ({ cls := "AffineAlignerModel", name := "work", desc := "(III)V" } : Jvm.MethodName)) ∈ lw_all := lw_g (lw_at lw_m1 191 rfl) rfl
theorem q211 : (Jvm.Cond.privateMethod ({ cls := "AffineAlignerModel", name := "work", desc := "(III)V" } : Jvm.MethodName)) ∈ lw_tbl := lw_at lw_m1 192 rfl
theorem q212 : (Jvm.Cond.instanceMethod ({ cls := "AffineAlignerModel", name := "work", desc := "(III)V" } : Jvm.MethodName)) ∈ lw_all := lw_g (lw_at lw_m1 193 rfl) rfl
theorem q213 : (Jvm.Cond.code ({ cls := "AffineAlignerModel", name := "work", desc := "(III)V" } : Jvm.MethodName) prog_3_method_8_code (6 : Nat) (Option.none : Option Jvm.ClassFile.FieldType)) ∈ lw_all := lw_g (lw_at lw_m1 194 rfl) rfl
theorem q214 : (Jvm.Cond.methodLink "AffineAlignerModel" (45 : Nat) ({ cls := "AffineAlignerModel", name := "fill", desc := "(IIIIII)V" } : Jvm.MethodName)) ∈ lw_all := lw_g (lw_at lw_m1 195 rfl) rfl
theorem q215 : (Jvm.Cond.privateMethod ({ cls := "AffineAlignerModel", name := "fill", desc := "(IIIIII)V" } : Jvm.MethodName)) ∈ lw_tbl := lw_at lw_m1 196 rfl
theorem q216 : (Jvm.Cond.instanceMethod ({ cls := "AffineAlignerModel", name := "fill", desc := "(IIIIII)V" } : Jvm.MethodName)) ∈ lw_all := lw_g (lw_at lw_m1 197 rfl) rfl
theorem q217 : (Jvm.Cond.code ({ cls := "AffineAlignerModel", name := "fill", desc := "(IIIIII)V" } : Jvm.MethodName) prog_3_method_7_code (10 : Nat) (Option.none : Option Jvm.ClassFile.FieldType)) ∈ lw_all := lw_g (lw_at lw_m1 198 rfl) rfl
theorem q218 : (Jvm.Cond.constant "AffineAlignerModel" (36 : Nat) (-100000 : Int32)) ∈ lw_all := lw_g (lw_at lw_m1 199 rfl) rfl
theorem q219 : (Jvm.Cond.methodLink "AffineAlignerModel" (37 : Nat) ({ cls := "AffineAlignerModel", name := "offer", desc := "(III)V" } : Jvm.MethodName)) ∈ lw_all := lw_g (lw_at lw_m1 200 rfl) rfl
theorem q220 : (Jvm.Cond.privateMethod ({ cls := "AffineAlignerModel", name := "offer", desc := "(III)V" } : Jvm.MethodName)) ∈ lw_tbl := lw_at lw_m1 201 rfl
theorem q221 : (Jvm.Cond.instanceMethod ({ cls := "AffineAlignerModel", name := "offer", desc := "(III)V" } : Jvm.MethodName)) ∈ lw_all := lw_g (lw_at lw_m1 202 rfl) rfl
theorem q222 : (Jvm.Cond.code ({ cls := "AffineAlignerModel", name := "offer", desc := "(III)V" } : Jvm.MethodName) prog_3_method_6_code (4 : Nat) (Option.none : Option Jvm.ClassFile.FieldType)) ∈ lw_all := lw_g (lw_at lw_m1 203 rfl) rfl
theorem q223 : (Jvm.Cond.constant "AffineAlignerModel" (35 : Nat) (-50000 : Int32)) ∈ lw_all := lw_g (lw_at lw_m1 204 rfl) rfl
theorem q224 : (Jvm.Cond.methodLink "AffineAlignerModel" (41 : Nat) ({ cls := "AffineAlignerModel", name := "gain", desc := "(II)I" } : Jvm.MethodName)) ∈ lw_all := lw_g (lw_at lw_m1 205 rfl) rfl
theorem q225 : (Jvm.Cond.privateMethod ({ cls := "AffineAlignerModel", name := "gain", desc := "(II)I" } : Jvm.MethodName)) ∈ lw_tbl := lw_at lw_m1 206 rfl
theorem q226 : (Jvm.Cond.instanceMethod ({ cls := "AffineAlignerModel", name := "gain", desc := "(II)I" } : Jvm.MethodName)) ∈ lw_all := lw_g (lw_at lw_m1 207 rfl) rfl
theorem q227 : (Jvm.Cond.code ({ cls := "AffineAlignerModel", name := "gain", desc := "(II)I" } : Jvm.MethodName) prog_3_method_5_code (3 : Nat) (Option.some Jvm.ClassFile.FieldType.int)) ∈ lw_all := lw_g (lw_at lw_m1 208 rfl) rfl
theorem q229 : (Jvm.Cond.instanceMethod ({ cls := "AffineAlignerModel", name := "ways", desc := "()I" } : Jvm.MethodName)) ∈ lw_all := lw_g (lw_at lw_m1 210 rfl) rfl
theorem q230 : (Jvm.Cond.selects "AffineAlignerModel" ({ cls := "AffineAlignerModel", name := "ways", desc := "()I" } : Jvm.MethodName) ({ cls := "AffineAlignerModel", name := "ways", desc := "()I" } : Jvm.MethodName)) ∈ lw_all := lw_g (lw_at lw_m1 211 rfl) rfl
theorem q231 : (Jvm.Cond.code ({ cls := "AffineAlignerModel", name := "ways", desc := "()I" } : Jvm.MethodName) prog_3_method_10_code (1 : Nat) (Option.some Jvm.ClassFile.FieldType.int)) ∈ lw_all := lw_g (lw_at lw_m1 212 rfl) rfl
theorem q233 : (Jvm.Cond.instanceMethod ({ cls := "AffineAlignerModel", name := "column", desc := "(I)I" } : Jvm.MethodName)) ∈ lw_all := lw_g (lw_at lw_m1 214 rfl) rfl
theorem q234 : (Jvm.Cond.selects "AffineAlignerModel" ({ cls := "AffineAlignerModel", name := "column", desc := "(I)I" } : Jvm.MethodName) ({ cls := "AffineAlignerModel", name := "column", desc := "(I)I" } : Jvm.MethodName)) ∈ lw_all := lw_g (lw_at lw_m1 215 rfl) rfl
theorem q235 : (Jvm.Cond.code ({ cls := "AffineAlignerModel", name := "column", desc := "(I)I" } : Jvm.MethodName) prog_3_method_14_code (2 : Nat) (Option.some Jvm.ClassFile.FieldType.int)) ∈ lw_all := lw_g (lw_at lw_m1 216 rfl) rfl
theorem q236 : (Jvm.Cond.methodLink "AffineAlignerModel" (63 : Nat) ({ cls := "AffineAlignerModel", name := "walk", desc := "(I)I" } : Jvm.MethodName)) ∈ lw_all := lw_g (lw_at lw_m1 217 rfl) rfl
theorem q237 : (Jvm.Cond.privateMethod ({ cls := "AffineAlignerModel", name := "walk", desc := "(I)I" } : Jvm.MethodName)) ∈ lw_tbl := lw_at lw_m1 218 rfl
theorem q238 : (Jvm.Cond.instanceMethod ({ cls := "AffineAlignerModel", name := "walk", desc := "(I)I" } : Jvm.MethodName)) ∈ lw_all := lw_g (lw_at lw_m1 219 rfl) rfl
theorem q239 : (Jvm.Cond.code ({ cls := "AffineAlignerModel", name := "walk", desc := "(I)I" } : Jvm.MethodName) prog_3_method_13_code (7 : Nat) (Option.some Jvm.ClassFile.FieldType.int)) ∈ lw_all := lw_g (lw_at lw_m1 220 rfl) rfl
theorem q240 : (Jvm.Cond.methodLink "AffineAlignerModel" (56 : Nat) ({ cls := "AffineAlignerModel", name := "best", desc := "()I" } : Jvm.MethodName)) ∈ lw_all := lw_g (lw_at lw_m1 221 rfl) rfl
theorem q241 : (Jvm.Cond.methodLink "AffineAlignerModel" (60 : Nat) ({ cls := "AffineAlignerModel", name := "sort", desc := "(III)I" } : Jvm.MethodName)) ∈ lw_all := lw_g (lw_at lw_m1 222 rfl) rfl
theorem q242 : (Jvm.Cond.privateMethod ({ cls := "AffineAlignerModel", name := "sort", desc := "(III)I" } : Jvm.MethodName)) ∈ lw_tbl := lw_at lw_m1 223 rfl
theorem q243 : (Jvm.Cond.instanceMethod ({ cls := "AffineAlignerModel", name := "sort", desc := "(III)I" } : Jvm.MethodName)) ∈ lw_all := lw_g (lw_at lw_m1 224 rfl) rfl
theorem q244 : (Jvm.Cond.code ({ cls := "AffineAlignerModel", name := "sort", desc := "(III)I" } : Jvm.MethodName) prog_3_method_12_code (8 : Nat) (Option.some Jvm.ClassFile.FieldType.int)) ∈ lw_all := lw_g (lw_at lw_m1 225 rfl) rfl
theorem q245 : (Jvm.Cond.methodLink "AffineAlignerModel" (52 : Nat) ({ cls := "AffineAlignerModel", name := "rest", desc := "(III)I" } : Jvm.MethodName)) ∈ lw_all := lw_g (lw_at lw_m1 226 rfl) rfl
theorem q246 : (Jvm.Cond.privateMethod ({ cls := "AffineAlignerModel", name := "rest", desc := "(III)I" } : Jvm.MethodName)) ∈ lw_tbl := lw_at lw_m1 227 rfl
theorem q247 : (Jvm.Cond.instanceMethod ({ cls := "AffineAlignerModel", name := "rest", desc := "(III)I" } : Jvm.MethodName)) ∈ lw_all := lw_g (lw_at lw_m1 228 rfl) rfl
theorem q248 : (Jvm.Cond.code ({ cls := "AffineAlignerModel", name := "rest", desc := "(III)I" } : Jvm.MethodName) prog_3_method_11_code (7 : Nat) (Option.some Jvm.ClassFile.FieldType.int)) ∈ lw_all := lw_g (lw_at lw_m1 229 rfl) rfl
theorem q250 : (Jvm.Cond.instanceMethod ({ cls := "AffineAlignerModel", name := "columns", desc := "()I" } : Jvm.MethodName)) ∈ lw_all := lw_g (lw_at lw_m1 231 rfl) rfl
theorem q251 : (Jvm.Cond.selects "AffineAlignerModel" ({ cls := "AffineAlignerModel", name := "columns", desc := "()I" } : Jvm.MethodName) ({ cls := "AffineAlignerModel", name := "columns", desc := "()I" } : Jvm.MethodName)) ∈ lw_all := lw_g (lw_at lw_m1 232 rfl) rfl
theorem q252 : (Jvm.Cond.code ({ cls := "AffineAlignerModel", name := "columns", desc := "()I" } : Jvm.MethodName) prog_3_method_15_code (1 : Nat) (Option.some Jvm.ClassFile.FieldType.int)) ∈ lw_all := lw_g (lw_at lw_m1 233 rfl) rfl
theorem q254 : (Jvm.Cond.instanceMethod ({ cls := "AffineAlignerModel", name := "local", desc := "()I" } : Jvm.MethodName)) ∈ lw_all := lw_g (lw_at lw_m1 235 rfl) rfl
theorem q255 : (Jvm.Cond.selects "AffineAlignerModel" ({ cls := "AffineAlignerModel", name := "local", desc := "()I" } : Jvm.MethodName) ({ cls := "AffineAlignerModel", name := "local", desc := "()I" } : Jvm.MethodName)) ∈ lw_all := lw_g (lw_at lw_m1 236 rfl) rfl
theorem q256 : (Jvm.Cond.code ({ cls := "AffineAlignerModel", name := "local", desc := "()I" } : Jvm.MethodName) prog_3_method_16_code (4 : Nat) (Option.some Jvm.ClassFile.FieldType.int)) ∈ lw_all := lw_g (lw_at lw_m1 237 rfl) rfl
theorem q258 : (Jvm.Cond.instanceMethod ({ cls := "AffineAlignerModel", name := "fitted", desc := "()I" } : Jvm.MethodName)) ∈ lw_all := lw_g (lw_at lw_m1 239 rfl) rfl
theorem q259 : (Jvm.Cond.selects "AffineAlignerModel" ({ cls := "AffineAlignerModel", name := "fitted", desc := "()I" } : Jvm.MethodName) ({ cls := "AffineAlignerModel", name := "fitted", desc := "()I" } : Jvm.MethodName)) ∈ lw_all := lw_g (lw_at lw_m2 0 rfl) rfl
theorem q260 : (Jvm.Cond.code ({ cls := "AffineAlignerModel", name := "fitted", desc := "()I" } : Jvm.MethodName) prog_3_method_17_code (3 : Nat) (Option.some Jvm.ClassFile.FieldType.int)) ∈ lw_all := lw_g (lw_at lw_m2 1 rfl) rfl
theorem q262 : (Jvm.Cond.instanceMethod ({ cls := "AffineAlignerModel", name := "overlap", desc := "()I" } : Jvm.MethodName)) ∈ lw_all := lw_g (lw_at lw_m2 3 rfl) rfl
theorem q263 : (Jvm.Cond.selects "AffineAlignerModel" ({ cls := "AffineAlignerModel", name := "overlap", desc := "()I" } : Jvm.MethodName) ({ cls := "AffineAlignerModel", name := "overlap", desc := "()I" } : Jvm.MethodName)) ∈ lw_all := lw_g (lw_at lw_m2 4 rfl) rfl
theorem q264 : (Jvm.Cond.code ({ cls := "AffineAlignerModel", name := "overlap", desc := "()I" } : Jvm.MethodName) prog_3_method_18_code (3 : Nat) (Option.some Jvm.ClassFile.FieldType.int)) ∈ lw_all := lw_g (lw_at lw_m2 5 rfl) rfl
theorem q266 : (Jvm.Cond.instanceMethod ({ cls := "AffineAlignerModel", name := "paired", desc := "(II)Z" } : Jvm.MethodName)) ∈ lw_all := lw_g (lw_at lw_m2 7 rfl) rfl
theorem q267 : (Jvm.Cond.selects "AffineAlignerModel" ({ cls := "AffineAlignerModel", name := "paired", desc := "(II)Z" } : Jvm.MethodName) ({ cls := "AffineAlignerModel", name := "paired", desc := "(II)Z" } : Jvm.MethodName)) ∈ lw_all := lw_g (lw_at lw_m2 8 rfl) rfl
theorem q268 : (Jvm.Cond.code ({ cls := "AffineAlignerModel", name := "paired", desc := "(II)Z" } : Jvm.MethodName) prog_3_method_19_code (5 : Nat) (Option.some Jvm.ClassFile.FieldType.boolean)) ∈ lw_all := lw_g (lw_at lw_m2 9 rfl) rfl
theorem in_X1 : ∀ w ∈ wsX10, w ∈ lw_all := lw_in wsX10 [177, 179, 181, 183, 185, 187, 189, 191] (by decide +kernel) (by decide +kernel)
theorem q28 : (Jvm.Cond.instanceMethod ({ cls := "java/lang/Object", name := "<init>", desc := "()V" } : Jvm.MethodName)) ∈ lw_all := lw_g (lw_at lw_m1 9 rfl) rfl
theorem q29 : (Jvm.Cond.code ({ cls := "java/lang/Object", name := "<init>", desc := "()V" } : Jvm.MethodName) object_method_1_code (1 : Nat) (Option.none : Option Jvm.ClassFile.FieldType)) ∈ lw_all := lw_g (lw_at lw_m1 10 rfl) rfl
theorem q19 : (Jvm.Cond.initialized "AffineAlignerLaw") ∈ lw_all := lw_g (lw_at lw_m1 0 rfl) rfl
theorem q22 : (Jvm.Cond.classLink "AffineAlignerLaw" (7 : Nat) "AffineAligner") ∈ lw_all := lw_g (lw_at lw_m1 3 rfl) rfl
theorem q24 : (Jvm.Cond.methodLink "AffineAlignerLaw" (9 : Nat) ({ cls := "AffineAligner", name := "<init>", desc := "()V" } : Jvm.MethodName)) ∈ lw_all := lw_g (lw_at lw_m1 5 rfl) rfl
theorem q69 : (Jvm.Cond.methodLink "AffineAlignerLaw" (13 : Nat) ({ cls := "AffineAligner", name := "type", desc := "(II)I" } : Jvm.MethodName)) ∈ lw_all := lw_g (lw_at lw_m1 50 rfl) rfl
theorem q73 : (Jvm.Cond.methodLink "AffineAlignerLaw" (18 : Nat) ({ cls := "AffineAligner", name := "wipe", desc := "(I)I" } : Jvm.MethodName)) ∈ lw_all := lw_g (lw_at lw_m1 54 rfl) rfl
theorem q77 : (Jvm.Cond.methodLink "AffineAlignerLaw" (23 : Nat) ({ cls := "AffineAligner", name := "rules", desc := "(IIII)Z" } : Jvm.MethodName)) ∈ lw_all := lw_g (lw_at lw_m1 58 rfl) rfl
theorem q81 : (Jvm.Cond.methodLink "AffineAlignerLaw" (28 : Nat) ({ cls := "AffineAligner", name := "best", desc := "()I" } : Jvm.MethodName)) ∈ lw_all := lw_g (lw_at lw_m1 62 rfl) rfl
theorem q118 : (Jvm.Cond.methodLink "AffineAlignerLaw" (33 : Nat) ({ cls := "AffineAligner", name := "ways", desc := "()I" } : Jvm.MethodName)) ∈ lw_all := lw_g (lw_at lw_m1 99 rfl) rfl
theorem q123 : (Jvm.Cond.methodLink "AffineAlignerLaw" (37 : Nat) ({ cls := "AffineAligner", name := "column", desc := "(I)I" } : Jvm.MethodName)) ∈ lw_all := lw_g (lw_at lw_m1 104 rfl) rfl
theorem q143 : (Jvm.Cond.methodLink "AffineAlignerLaw" (41 : Nat) ({ cls := "AffineAligner", name := "columns", desc := "()I" } : Jvm.MethodName)) ∈ lw_all := lw_g (lw_at lw_m1 124 rfl) rfl
theorem q147 : (Jvm.Cond.methodLink "AffineAlignerLaw" (45 : Nat) ({ cls := "AffineAligner", name := "local", desc := "()I" } : Jvm.MethodName)) ∈ lw_all := lw_g (lw_at lw_m1 128 rfl) rfl
theorem q151 : (Jvm.Cond.methodLink "AffineAlignerLaw" (49 : Nat) ({ cls := "AffineAligner", name := "fitted", desc := "()I" } : Jvm.MethodName)) ∈ lw_all := lw_g (lw_at lw_m1 132 rfl) rfl
theorem q155 : (Jvm.Cond.methodLink "AffineAlignerLaw" (53 : Nat) ({ cls := "AffineAligner", name := "overlap", desc := "()I" } : Jvm.MethodName)) ∈ lw_all := lw_g (lw_at lw_m1 136 rfl) rfl
theorem q159 : (Jvm.Cond.methodLink "AffineAlignerLaw" (57 : Nat) ({ cls := "AffineAligner", name := "paired", desc := "(II)Z" } : Jvm.MethodName)) ∈ lw_all := lw_g (lw_at lw_m1 140 rfl) rfl
theorem q163 : (Jvm.Cond.classLink "AffineAlignerLaw" (10 : Nat) "AffineAlignerModel") ∈ lw_all := lw_g (lw_at lw_m1 144 rfl) rfl
theorem q165 : (Jvm.Cond.methodLink "AffineAlignerLaw" (12 : Nat) ({ cls := "AffineAlignerModel", name := "<init>", desc := "()V" } : Jvm.MethodName)) ∈ lw_all := lw_g (lw_at lw_m1 146 rfl) rfl
theorem q194 : (Jvm.Cond.methodLink "AffineAlignerLaw" (17 : Nat) ({ cls := "AffineAlignerModel", name := "type", desc := "(II)I" } : Jvm.MethodName)) ∈ lw_all := lw_g (lw_at lw_m1 175 rfl) rfl
theorem q198 : (Jvm.Cond.methodLink "AffineAlignerLaw" (22 : Nat) ({ cls := "AffineAlignerModel", name := "wipe", desc := "(I)I" } : Jvm.MethodName)) ∈ lw_all := lw_g (lw_at lw_m1 179 rfl) rfl
theorem q202 : (Jvm.Cond.methodLink "AffineAlignerLaw" (27 : Nat) ({ cls := "AffineAlignerModel", name := "rules", desc := "(IIII)Z" } : Jvm.MethodName)) ∈ lw_all := lw_g (lw_at lw_m1 183 rfl) rfl
theorem q206 : (Jvm.Cond.methodLink "AffineAlignerLaw" (32 : Nat) ({ cls := "AffineAlignerModel", name := "best", desc := "()I" } : Jvm.MethodName)) ∈ lw_all := lw_g (lw_at lw_m1 187 rfl) rfl
theorem q228 : (Jvm.Cond.methodLink "AffineAlignerLaw" (36 : Nat) ({ cls := "AffineAlignerModel", name := "ways", desc := "()I" } : Jvm.MethodName)) ∈ lw_all := lw_g (lw_at lw_m1 209 rfl) rfl
theorem q232 : (Jvm.Cond.methodLink "AffineAlignerLaw" (40 : Nat) ({ cls := "AffineAlignerModel", name := "column", desc := "(I)I" } : Jvm.MethodName)) ∈ lw_all := lw_g (lw_at lw_m1 213 rfl) rfl
theorem q249 : (Jvm.Cond.methodLink "AffineAlignerLaw" (44 : Nat) ({ cls := "AffineAlignerModel", name := "columns", desc := "()I" } : Jvm.MethodName)) ∈ lw_all := lw_g (lw_at lw_m1 230 rfl) rfl
theorem q253 : (Jvm.Cond.methodLink "AffineAlignerLaw" (48 : Nat) ({ cls := "AffineAlignerModel", name := "local", desc := "()I" } : Jvm.MethodName)) ∈ lw_all := lw_g (lw_at lw_m1 234 rfl) rfl
theorem q257 : (Jvm.Cond.methodLink "AffineAlignerLaw" (52 : Nat) ({ cls := "AffineAlignerModel", name := "fitted", desc := "()I" } : Jvm.MethodName)) ∈ lw_all := lw_g (lw_at lw_m1 238 rfl) rfl
theorem q261 : (Jvm.Cond.methodLink "AffineAlignerLaw" (56 : Nat) ({ cls := "AffineAlignerModel", name := "overlap", desc := "()I" } : Jvm.MethodName)) ∈ lw_all := lw_g (lw_at lw_m2 2 rfl) rfl
theorem q265 : (Jvm.Cond.methodLink "AffineAlignerLaw" (61 : Nat) ({ cls := "AffineAlignerModel", name := "paired", desc := "(II)Z" } : Jvm.MethodName)) ∈ lw_all := lw_g (lw_at lw_m2 6 rfl) rfl
theorem q67 : (Jvm.Cond.arrayClass Jvm.ClassFile.FieldType.byte) ∈ lw_all := lw_g (lw_at lw_m1 48 rfl) rfl
theorem q68 : (Jvm.Cond.arrayClass Jvm.ClassFile.FieldType.int) ∈ lw_all := lw_g (lw_at lw_m1 49 rfl) rfl
end
section
set_option maxRecDepth 100000
theorem dX0_init_0 : decode cX0_init 0 = .ok (.aload_n 0, 1) := by decide +kernel
theorem dX0_init_1 : decode cX0_init 1 = .ok (.invokespecial 1, 3) := by decide +kernel
theorem dX0_init_4 : decode cX0_init 4 = .ok (.aload_n 0, 1) := by decide +kernel
theorem dX0_init_5 : decode cX0_init 5 = .ok (.iconst 2, 1) := by decide +kernel
theorem dX0_init_6 : decode cX0_init 6 = .ok (.newarray .byte, 2) := by decide +kernel
theorem dX0_init_8 : decode cX0_init 8 = .ok (.putfield 7, 3) := by decide +kernel
theorem dX0_init_11 : decode cX0_init 11 = .ok (.aload_n 0, 1) := by decide +kernel
theorem dX0_init_12 : decode cX0_init 12 = .ok (.bipush 20, 2) := by decide +kernel
theorem dX0_init_14 : decode cX0_init 14 = .ok (.newarray .byte, 2) := by decide +kernel
theorem dX0_init_16 : decode cX0_init 16 = .ok (.putfield 13, 3) := by decide +kernel
theorem dX0_init_19 : decode cX0_init 19 = .ok (.aload_n 0, 1) := by decide +kernel
theorem dX0_init_20 : decode cX0_init 20 = .ok (.sipush 363, 3) := by decide +kernel
theorem dX0_init_23 : decode cX0_init 23 = .ok (.newarray .int, 2) := by decide +kernel
theorem dX0_init_25 : decode cX0_init 25 = .ok (.putfield 16, 3) := by decide +kernel
theorem dX0_init_28 : decode cX0_init 28 = .ok (.aload_n 0, 1) := by decide +kernel
theorem dX0_init_29 : decode cX0_init 29 = .ok (.sipush 363, 3) := by decide +kernel
theorem dX0_init_32 : decode cX0_init 32 = .ok (.newarray .int, 2) := by decide +kernel
theorem dX0_init_34 : decode cX0_init 34 = .ok (.putfield 20, 3) := by decide +kernel
theorem dX0_init_37 : decode cX0_init 37 = .ok (.aload_n 0, 1) := by decide +kernel
theorem dX0_init_38 : decode cX0_init 38 = .ok (.sipush 363, 3) := by decide +kernel
theorem dX0_init_41 : decode cX0_init 41 = .ok (.newarray .int, 2) := by decide +kernel
theorem dX0_init_43 : decode cX0_init 43 = .ok (.putfield 23, 3) := by decide +kernel
theorem dX0_init_46 : decode cX0_init 46 = .ok (.aload_n 0, 1) := by decide +kernel
theorem dX0_init_47 : decode cX0_init 47 = .ok (.bipush 20, 2) := by decide +kernel
theorem dX0_init_49 : decode cX0_init 49 = .ok (.newarray .byte, 2) := by decide +kernel
theorem dX0_init_51 : decode cX0_init 51 = .ok (.putfield 26, 3) := by decide +kernel
theorem dX0_init_54 : decode cX0_init 54 = .ok (.aload_n 0, 1) := by decide +kernel
theorem dX0_init_55 : decode cX0_init 55 = .ok (.iconst 2, 1) := by decide +kernel
theorem dX0_init_56 : decode cX0_init 56 = .ok (.putfield 29, 3) := by decide +kernel
theorem dX0_init_59 : decode cX0_init 59 = .ok (.aload_n 0, 1) := by decide +kernel
theorem dX0_init_60 : decode cX0_init 60 = .ok (.iconst (-1), 1) := by decide +kernel
theorem dX0_init_61 : decode cX0_init 61 = .ok (.putfield 33, 3) := by decide +kernel
theorem dX0_init_64 : decode cX0_init 64 = .ok (.aload_n 0, 1) := by decide +kernel
theorem dX0_init_65 : decode cX0_init 65 = .ok (.iconst 2, 1) := by decide +kernel
theorem dX0_init_66 : decode cX0_init 66 = .ok (.putfield 36, 3) := by decide +kernel
theorem dX0_init_69 : decode cX0_init 69 = .ok (.aload_n 0, 1) := by decide +kernel
theorem dX0_init_70 : decode cX0_init 70 = .ok (.iconst 1, 1) := by decide +kernel
theorem dX0_init_71 : decode cX0_init 71 = .ok (.putfield 39, 3) := by decide +kernel
theorem dX0_init_74 : decode cX0_init 74 = .ok (.return_, 1) := by decide +kernel
theorem dX0_type_0 : decode cX0_type 0 = .ok (.iload_n 1, 1) := by decide +kernel
theorem dX0_type_1 : decode cX0_type 1 = .ok (.ifCond .lt 17, 3) := by decide +kernel
theorem dX0_type_4 : decode cX0_type 4 = .ok (.iload_n 1, 1) := by decide +kernel
theorem dX0_type_5 : decode cX0_type 5 = .ok (.iconst 1, 1) := by decide +kernel
theorem dX0_type_6 : decode cX0_type 6 = .ok (.if_icmp .gt 12, 3) := by decide +kernel
theorem dX0_type_9 : decode cX0_type 9 = .ok (.iload_n 2, 1) := by decide +kernel
theorem dX0_type_10 : decode cX0_type 10 = .ok (.ifCond .lt 8, 3) := by decide +kernel
theorem dX0_type_13 : decode cX0_type 13 = .ok (.iload_n 2, 1) := by decide +kernel
theorem dX0_type_14 : decode cX0_type 14 = .ok (.iconst 3, 1) := by decide +kernel
theorem dX0_type_15 : decode cX0_type 15 = .ok (.if_icmp .le 7, 3) := by decide +kernel
theorem dX0_type_18 : decode cX0_type 18 = .ok (.sipush (-1000), 3) := by decide +kernel
theorem dX0_type_21 : decode cX0_type 21 = .ok (.ireturn, 1) := by decide +kernel
theorem dX0_type_22 : decode cX0_type 22 = .ok (.aload_n 0, 1) := by decide +kernel
theorem dX0_type_23 : decode cX0_type 23 = .ok (.getfield 7, 3) := by decide +kernel
theorem dX0_type_26 : decode cX0_type 26 = .ok (.iload_n 1, 1) := by decide +kernel
theorem dX0_type_27 : decode cX0_type 27 = .ok (.baload, 1) := by decide +kernel
theorem dX0_type_28 : decode cX0_type 28 = .ok (.bipush 10, 2) := by decide +kernel
theorem dX0_type_30 : decode cX0_type 30 = .ok (.if_icmp .lt 7, 3) := by decide +kernel
theorem dX0_type_33 : decode cX0_type 33 = .ok (.sipush (-1001), 3) := by decide +kernel
theorem dX0_type_36 : decode cX0_type 36 = .ok (.ireturn, 1) := by decide +kernel
theorem dX0_type_37 : decode cX0_type 37 = .ok (.aload_n 0, 1) := by decide +kernel
theorem dX0_type_38 : decode cX0_type 38 = .ok (.getfield 13, 3) := by decide +kernel
theorem dX0_type_41 : decode cX0_type 41 = .ok (.bipush 10, 2) := by decide +kernel
theorem dX0_type_43 : decode cX0_type 43 = .ok (.iload_n 1, 1) := by decide +kernel
theorem dX0_type_44 : decode cX0_type 44 = .ok (.imul, 1) := by decide +kernel
theorem dX0_type_45 : decode cX0_type 45 = .ok (.aload_n 0, 1) := by decide +kernel
theorem dX0_type_46 : decode cX0_type 46 = .ok (.getfield 7, 3) := by decide +kernel
theorem dX0_type_49 : decode cX0_type 49 = .ok (.iload_n 1, 1) := by decide +kernel
theorem dX0_type_50 : decode cX0_type 50 = .ok (.baload, 1) := by decide +kernel
theorem dX0_type_51 : decode cX0_type 51 = .ok (.iadd, 1) := by decide +kernel
theorem dX0_type_52 : decode cX0_type 52 = .ok (.iload_n 2, 1) := by decide +kernel
theorem dX0_type_53 : decode cX0_type 53 = .ok (.i2b, 1) := by decide +kernel
theorem dX0_type_54 : decode cX0_type 54 = .ok (.bastore, 1) := by decide +kernel
theorem dX0_type_55 : decode cX0_type 55 = .ok (.aload_n 0, 1) := by decide +kernel
theorem dX0_type_56 : decode cX0_type 56 = .ok (.getfield 7, 3) := by decide +kernel
theorem dX0_type_59 : decode cX0_type 59 = .ok (.iload_n 1, 1) := by decide +kernel
theorem dX0_type_60 : decode cX0_type 60 = .ok (.dup2, 1) := by decide +kernel
theorem dX0_type_61 : decode cX0_type 61 = .ok (.baload, 1) := by decide +kernel
theorem dX0_type_62 : decode cX0_type 62 = .ok (.iconst 1, 1) := by decide +kernel
theorem dX0_type_63 : decode cX0_type 63 = .ok (.iadd, 1) := by decide +kernel
theorem dX0_type_64 : decode cX0_type 64 = .ok (.i2b, 1) := by decide +kernel
theorem dX0_type_65 : decode cX0_type 65 = .ok (.bastore, 1) := by decide +kernel
theorem dX0_type_66 : decode cX0_type 66 = .ok (.aload_n 0, 1) := by decide +kernel
theorem dX0_type_67 : decode cX0_type 67 = .ok (.getfield 7, 3) := by decide +kernel
theorem dX0_type_70 : decode cX0_type 70 = .ok (.iload_n 1, 1) := by decide +kernel
theorem dX0_type_71 : decode cX0_type 71 = .ok (.baload, 1) := by decide +kernel
theorem dX0_type_72 : decode cX0_type 72 = .ok (.ireturn, 1) := by decide +kernel
theorem dX0_wipe_0 : decode cX0_wipe 0 = .ok (.iload_n 1, 1) := by decide +kernel
theorem dX0_wipe_1 : decode cX0_wipe 1 = .ok (.ifCond .lt 8, 3) := by decide +kernel
theorem dX0_wipe_4 : decode cX0_wipe 4 = .ok (.iload_n 1, 1) := by decide +kernel
theorem dX0_wipe_5 : decode cX0_wipe 5 = .ok (.iconst 1, 1) := by decide +kernel
theorem dX0_wipe_6 : decode cX0_wipe 6 = .ok (.if_icmp .le 7, 3) := by decide +kernel
theorem dX0_wipe_9 : decode cX0_wipe 9 = .ok (.sipush (-1000), 3) := by decide +kernel
theorem dX0_wipe_12 : decode cX0_wipe 12 = .ok (.ireturn, 1) := by decide +kernel
theorem dX0_wipe_13 : decode cX0_wipe 13 = .ok (.aload_n 0, 1) := by decide +kernel
theorem dX0_wipe_14 : decode cX0_wipe 14 = .ok (.getfield 7, 3) := by decide +kernel
theorem dX0_wipe_17 : decode cX0_wipe 17 = .ok (.iload_n 1, 1) := by decide +kernel
theorem dX0_wipe_18 : decode cX0_wipe 18 = .ok (.baload, 1) := by decide +kernel
theorem dX0_wipe_19 : decode cX0_wipe 19 = .ok (.istore_n 2, 1) := by decide +kernel
theorem dX0_wipe_20 : decode cX0_wipe 20 = .ok (.aload_n 0, 1) := by decide +kernel
theorem dX0_wipe_21 : decode cX0_wipe 21 = .ok (.getfield 7, 3) := by decide +kernel
theorem dX0_wipe_24 : decode cX0_wipe 24 = .ok (.iload_n 1, 1) := by decide +kernel
theorem dX0_wipe_25 : decode cX0_wipe 25 = .ok (.iconst 0, 1) := by decide +kernel
theorem dX0_wipe_26 : decode cX0_wipe 26 = .ok (.bastore, 1) := by decide +kernel
theorem dX0_wipe_27 : decode cX0_wipe 27 = .ok (.iload_n 2, 1) := by decide +kernel
theorem dX0_wipe_28 : decode cX0_wipe 28 = .ok (.ireturn, 1) := by decide +kernel
theorem dX0_rules_0 : decode cX0_rules 0 = .ok (.iload_n 1, 1) := by decide +kernel
theorem dX0_rules_1 : decode cX0_rules 1 = .ok (.bipush (-9), 2) := by decide +kernel
theorem dX0_rules_3 : decode cX0_rules 3 = .ok (.if_icmp .lt 21, 3) := by decide +kernel
theorem dX0_rules_6 : decode cX0_rules 6 = .ok (.iload_n 1, 1) := by decide +kernel
theorem dX0_rules_7 : decode cX0_rules 7 = .ok (.bipush 9, 2) := by decide +kernel
theorem dX0_rules_9 : decode cX0_rules 9 = .ok (.if_icmp .gt 15, 3) := by decide +kernel
theorem dX0_rules_12 : decode cX0_rules 12 = .ok (.iload_n 2, 1) := by decide +kernel
theorem dX0_rules_13 : decode cX0_rules 13 = .ok (.bipush (-9), 2) := by decide +kernel
theorem dX0_rules_15 : decode cX0_rules 15 = .ok (.if_icmp .lt 9, 3) := by decide +kernel
theorem dX0_rules_18 : decode cX0_rules 18 = .ok (.iload_n 2, 1) := by decide +kernel
theorem dX0_rules_19 : decode cX0_rules 19 = .ok (.bipush 9, 2) := by decide +kernel
theorem dX0_rules_21 : decode cX0_rules 21 = .ok (.if_icmp .le 5, 3) := by decide +kernel
theorem dX0_rules_24 : decode cX0_rules 24 = .ok (.iconst 0, 1) := by decide +kernel
theorem dX0_rules_25 : decode cX0_rules 25 = .ok (.ireturn, 1) := by decide +kernel
theorem dX0_rules_26 : decode cX0_rules 26 = .ok (.iload_n 3, 1) := by decide +kernel
theorem dX0_rules_27 : decode cX0_rules 27 = .ok (.ifCond .lt 21, 3) := by decide +kernel
theorem dX0_rules_30 : decode cX0_rules 30 = .ok (.iload_n 3, 1) := by decide +kernel
theorem dX0_rules_31 : decode cX0_rules 31 = .ok (.bipush 9, 2) := by decide +kernel
theorem dX0_rules_33 : decode cX0_rules 33 = .ok (.if_icmp .gt 15, 3) := by decide +kernel
theorem dX0_rules_36 : decode cX0_rules 36 = .ok (.iload 4, 2) := by decide +kernel
theorem dX0_rules_38 : decode cX0_rules 38 = .ok (.ifCond .lt 10, 3) := by decide +kernel
theorem dX0_rules_41 : decode cX0_rules 41 = .ok (.iload 4, 2) := by decide +kernel
theorem dX0_rules_43 : decode cX0_rules 43 = .ok (.bipush 9, 2) := by decide +kernel
theorem dX0_rules_45 : decode cX0_rules 45 = .ok (.if_icmp .le 5, 3) := by decide +kernel
theorem dX0_rules_48 : decode cX0_rules 48 = .ok (.iconst 0, 1) := by decide +kernel
theorem dX0_rules_49 : decode cX0_rules 49 = .ok (.ireturn, 1) := by decide +kernel
theorem dX0_rules_50 : decode cX0_rules 50 = .ok (.aload_n 0, 1) := by decide +kernel
theorem dX0_rules_51 : decode cX0_rules 51 = .ok (.iload_n 1, 1) := by decide +kernel
theorem dX0_rules_52 : decode cX0_rules 52 = .ok (.putfield 29, 3) := by decide +kernel
theorem dX0_rules_55 : decode cX0_rules 55 = .ok (.aload_n 0, 1) := by decide +kernel
theorem dX0_rules_56 : decode cX0_rules 56 = .ok (.iload_n 2, 1) := by decide +kernel
theorem dX0_rules_57 : decode cX0_rules 57 = .ok (.putfield 33, 3) := by decide +kernel
theorem dX0_rules_60 : decode cX0_rules 60 = .ok (.aload_n 0, 1) := by decide +kernel
theorem dX0_rules_61 : decode cX0_rules 61 = .ok (.iload_n 3, 1) := by decide +kernel
theorem dX0_rules_62 : decode cX0_rules 62 = .ok (.putfield 36, 3) := by decide +kernel
theorem dX0_rules_65 : decode cX0_rules 65 = .ok (.aload_n 0, 1) := by decide +kernel
theorem dX0_rules_66 : decode cX0_rules 66 = .ok (.iload 4, 2) := by decide +kernel
theorem dX0_rules_68 : decode cX0_rules 68 = .ok (.putfield 39, 3) := by decide +kernel
theorem dX0_rules_71 : decode cX0_rules 71 = .ok (.iconst 1, 1) := by decide +kernel
theorem dX0_rules_72 : decode cX0_rules 72 = .ok (.ireturn, 1) := by decide +kernel
theorem dX0_best_0 : decode cX0_best 0 = .ok (.aload_n 0, 1) := by decide +kernel
theorem dX0_best_1 : decode cX0_best 1 = .ok (.iconst 0, 1) := by decide +kernel
theorem dX0_best_2 : decode cX0_best 2 = .ok (.invokevirtual 42, 3) := by decide +kernel
theorem dX0_best_5 : decode cX0_best 5 = .ok (.aload_n 0, 1) := by decide +kernel
theorem dX0_best_6 : decode cX0_best 6 = .ok (.aload_n 0, 1) := by decide +kernel
theorem dX0_best_7 : decode cX0_best 7 = .ok (.getfield 7, 3) := by decide +kernel
theorem dX0_best_10 : decode cX0_best 10 = .ok (.iconst 0, 1) := by decide +kernel
theorem dX0_best_11 : decode cX0_best 11 = .ok (.baload, 1) := by decide +kernel
theorem dX0_best_12 : decode cX0_best 12 = .ok (.aload_n 0, 1) := by decide +kernel
theorem dX0_best_13 : decode cX0_best 13 = .ok (.getfield 7, 3) := by decide +kernel
theorem dX0_best_16 : decode cX0_best 16 = .ok (.iconst 1, 1) := by decide +kernel
theorem dX0_best_17 : decode cX0_best 17 = .ok (.baload, 1) := by decide +kernel
theorem dX0_best_18 : decode cX0_best 18 = .ok (.invokevirtual 46, 3) := by decide +kernel
theorem dX0_best_21 : decode cX0_best 21 = .ok (.ireturn, 1) := by decide +kernel
theorem dX0_fillFront_0 : decode cX0_fillFront 0 = .ok (.aload_n 0, 1) := by decide +kernel
theorem dX0_fillFront_1 : decode cX0_fillFront 1 = .ok (.iload_n 1, 1) := by decide +kernel
theorem dX0_fillFront_2 : decode cX0_fillFront 2 = .ok (.putfield 67, 3) := by decide +kernel
theorem dX0_fillFront_5 : decode cX0_fillFront 5 = .ok (.iconst 0, 1) := by decide +kernel
theorem dX0_fillFront_6 : decode cX0_fillFront 6 = .ok (.istore_n 2, 1) := by decide +kernel
theorem dX0_fillFront_7 : decode cX0_fillFront 7 = .ok (.iload_n 2, 1) := by decide +kernel
theorem dX0_fillFront_8 : decode cX0_fillFront 8 = .ok (.aload_n 0, 1) := by decide +kernel
theorem dX0_fillFront_9 : decode cX0_fillFront 9 = .ok (.getfield 7, 3) := by decide +kernel
theorem dX0_fillFront_12 : decode cX0_fillFront 12 = .ok (.iconst 0, 1) := by decide +kernel
theorem dX0_fillFront_13 : decode cX0_fillFront 13 = .ok (.baload, 1) := by decide +kernel
theorem dX0_fillFront_14 : decode cX0_fillFront 14 = .ok (.if_icmp .gt 33, 3) := by decide +kernel
theorem dX0_fillFront_17 : decode cX0_fillFront 17 = .ok (.iconst 0, 1) := by decide +kernel
theorem dX0_fillFront_18 : decode cX0_fillFront 18 = .ok (.istore_n 3, 1) := by decide +kernel
theorem dX0_fillFront_19 : decode cX0_fillFront 19 = .ok (.iload_n 3, 1) := by decide +kernel
theorem dX0_fillFront_20 : decode cX0_fillFront 20 = .ok (.aload_n 0, 1) := by decide +kernel
theorem dX0_fillFront_21 : decode cX0_fillFront 21 = .ok (.getfield 7, 3) := by decide +kernel
theorem dX0_fillFront_24 : decode cX0_fillFront 24 = .ok (.iconst 1, 1) := by decide +kernel
theorem dX0_fillFront_25 : decode cX0_fillFront 25 = .ok (.baload, 1) := by decide +kernel
theorem dX0_fillFront_26 : decode cX0_fillFront 26 = .ok (.if_icmp .gt 15, 3) := by decide +kernel
theorem dX0_fillFront_29 : decode cX0_fillFront 29 = .ok (.aload_n 0, 1) := by decide +kernel
theorem dX0_fillFront_30 : decode cX0_fillFront 30 = .ok (.iload_n 2, 1) := by decide +kernel
theorem dX0_fillFront_31 : decode cX0_fillFront 31 = .ok (.iload_n 3, 1) := by decide +kernel
theorem dX0_fillFront_32 : decode cX0_fillFront 32 = .ok (.invokevirtual 70, 3) := by decide +kernel
theorem dX0_fillFront_35 : decode cX0_fillFront 35 = .ok (.iinc 3 1, 3) := by decide +kernel
theorem dX0_fillFront_38 : decode cX0_fillFront 38 = .ok (.goto (-19), 3) := by decide +kernel
theorem dX0_fillFront_41 : decode cX0_fillFront 41 = .ok (.iinc 2 1, 3) := by decide +kernel
theorem dX0_fillFront_44 : decode cX0_fillFront 44 = .ok (.goto (-37), 3) := by decide +kernel
theorem dX0_fillFront_47 : decode cX0_fillFront 47 = .ok (.return_, 1) := by decide +kernel
theorem dX0_fillCell_0 : decode cX0_fillCell 0 = .ok (.bipush 11, 2) := by decide +kernel
theorem dX0_fillCell_2 : decode cX0_fillCell 2 = .ok (.iload_n 1, 1) := by decide +kernel
theorem dX0_fillCell_3 : decode cX0_fillCell 3 = .ok (.imul, 1) := by decide +kernel
theorem dX0_fillCell_4 : decode cX0_fillCell 4 = .ok (.iload_n 2, 1) := by decide +kernel
theorem dX0_fillCell_5 : decode cX0_fillCell 5 = .ok (.iadd, 1) := by decide +kernel
theorem dX0_fillCell_6 : decode cX0_fillCell 6 = .ok (.istore_n 3, 1) := by decide +kernel
theorem dX0_fillCell_7 : decode cX0_fillCell 7 = .ok (.iconst 0, 1) := by decide +kernel
theorem dX0_fillCell_8 : decode cX0_fillCell 8 = .ok (.istore 4, 2) := by decide +kernel
theorem dX0_fillCell_10 : decode cX0_fillCell 10 = .ok (.iload 4, 2) := by decide +kernel
theorem dX0_fillCell_12 : decode cX0_fillCell 12 = .ok (.iconst 3, 1) := by decide +kernel
theorem dX0_fillCell_13 : decode cX0_fillCell 13 = .ok (.if_icmp .ge 36, 3) := by decide +kernel
theorem dX0_fillCell_16 : decode cX0_fillCell 16 = .ok (.aload_n 0, 1) := by decide +kernel
theorem dX0_fillCell_17 : decode cX0_fillCell 17 = .ok (.getfield 16, 3) := by decide +kernel
theorem dX0_fillCell_20 : decode cX0_fillCell 20 = .ok (.bipush 121, 2) := by decide +kernel
theorem dX0_fillCell_22 : decode cX0_fillCell 22 = .ok (.iload 4, 2) := by decide +kernel
theorem dX0_fillCell_24 : decode cX0_fillCell 24 = .ok (.imul, 1) := by decide +kernel
theorem dX0_fillCell_25 : decode cX0_fillCell 25 = .ok (.iload_n 3, 1) := by decide +kernel
theorem dX0_fillCell_26 : decode cX0_fillCell 26 = .ok (.iadd, 1) := by decide +kernel
theorem dX0_fillCell_27 : decode cX0_fillCell 27 = .ok (.ldc 60, 2) := by decide +kernel
theorem dX0_fillCell_29 : decode cX0_fillCell 29 = .ok (.iastore, 1) := by decide +kernel
theorem dX0_fillCell_30 : decode cX0_fillCell 30 = .ok (.aload_n 0, 1) := by decide +kernel
theorem dX0_fillCell_31 : decode cX0_fillCell 31 = .ok (.getfield 20, 3) := by decide +kernel
theorem dX0_fillCell_34 : decode cX0_fillCell 34 = .ok (.bipush 121, 2) := by decide +kernel
theorem dX0_fillCell_36 : decode cX0_fillCell 36 = .ok (.iload 4, 2) := by decide +kernel
theorem dX0_fillCell_38 : decode cX0_fillCell 38 = .ok (.imul, 1) := by decide +kernel
theorem dX0_fillCell_39 : decode cX0_fillCell 39 = .ok (.iload_n 3, 1) := by decide +kernel
theorem dX0_fillCell_40 : decode cX0_fillCell 40 = .ok (.iadd, 1) := by decide +kernel
theorem dX0_fillCell_41 : decode cX0_fillCell 41 = .ok (.iconst 0, 1) := by decide +kernel
theorem dX0_fillCell_42 : decode cX0_fillCell 42 = .ok (.iastore, 1) := by decide +kernel
theorem dX0_fillCell_43 : decode cX0_fillCell 43 = .ok (.iinc 4 1, 3) := by decide +kernel
theorem dX0_fillCell_46 : decode cX0_fillCell 46 = .ok (.goto (-36), 3) := by decide +kernel
theorem dX0_fillCell_49 : decode cX0_fillCell 49 = .ok (.aload_n 0, 1) := by decide +kernel
theorem dX0_fillCell_50 : decode cX0_fillCell 50 = .ok (.iload_n 1, 1) := by decide +kernel
theorem dX0_fillCell_51 : decode cX0_fillCell 51 = .ok (.iload_n 2, 1) := by decide +kernel
theorem dX0_fillCell_52 : decode cX0_fillCell 52 = .ok (.invokevirtual 74, 3) := by decide +kernel
theorem dX0_fillCell_55 : decode cX0_fillCell 55 = .ok (.ifCond .eq 11, 3) := by decide +kernel
theorem dX0_fillCell_58 : decode cX0_fillCell 58 = .ok (.aload_n 0, 1) := by decide +kernel
theorem dX0_fillCell_59 : decode cX0_fillCell 59 = .ok (.iload_n 3, 1) := by decide +kernel
theorem dX0_fillCell_60 : decode cX0_fillCell 60 = .ok (.iconst 0, 1) := by decide +kernel
theorem dX0_fillCell_61 : decode cX0_fillCell 61 = .ok (.iconst 0, 1) := by decide +kernel
theorem dX0_fillCell_62 : decode cX0_fillCell 62 = .ok (.iconst 1, 1) := by decide +kernel
theorem dX0_fillCell_63 : decode cX0_fillCell 63 = .ok (.invokevirtual 78, 3) := by decide +kernel
theorem dX0_fillCell_66 : decode cX0_fillCell 66 = .ok (.iload_n 1, 1) := by decide +kernel
theorem dX0_fillCell_67 : decode cX0_fillCell 67 = .ok (.ifCond .le 20, 3) := by decide +kernel
theorem dX0_fillCell_70 : decode cX0_fillCell 70 = .ok (.iload_n 2, 1) := by decide +kernel
theorem dX0_fillCell_71 : decode cX0_fillCell 71 = .ok (.ifCond .le 16, 3) := by decide +kernel
theorem dX0_fillCell_74 : decode cX0_fillCell 74 = .ok (.aload_n 0, 1) := by decide +kernel
theorem dX0_fillCell_75 : decode cX0_fillCell 75 = .ok (.iload_n 1, 1) := by decide +kernel
theorem dX0_fillCell_76 : decode cX0_fillCell 76 = .ok (.iconst 1, 1) := by decide +kernel
theorem dX0_fillCell_77 : decode cX0_fillCell 77 = .ok (.isub, 1) := by decide +kernel
theorem dX0_fillCell_78 : decode cX0_fillCell 78 = .ok (.iload_n 2, 1) := by decide +kernel
theorem dX0_fillCell_79 : decode cX0_fillCell 79 = .ok (.iconst 1, 1) := by decide +kernel
theorem dX0_fillCell_80 : decode cX0_fillCell 80 = .ok (.isub, 1) := by decide +kernel
theorem dX0_fillCell_81 : decode cX0_fillCell 81 = .ok (.invokevirtual 64, 3) := by decide +kernel
theorem dX0_fillCell_84 : decode cX0_fillCell 84 = .ok (.goto 4, 3) := by decide +kernel
theorem dX0_fillCell_87 : decode cX0_fillCell 87 = .ok (.iconst 0, 1) := by decide +kernel
theorem dX0_fillCell_88 : decode cX0_fillCell 88 = .ok (.istore 4, 2) := by decide +kernel
theorem dX0_fillCell_90 : decode cX0_fillCell 90 = .ok (.iload_n 1, 1) := by decide +kernel
theorem dX0_fillCell_91 : decode cX0_fillCell 91 = .ok (.ifCond .le 21, 3) := by decide +kernel
theorem dX0_fillCell_94 : decode cX0_fillCell 94 = .ok (.iload_n 2, 1) := by decide +kernel
theorem dX0_fillCell_95 : decode cX0_fillCell 95 = .ok (.ifCond .le 17, 3) := by decide +kernel
theorem dX0_fillCell_98 : decode cX0_fillCell 98 = .ok (.aload_n 0, 1) := by decide +kernel
theorem dX0_fillCell_99 : decode cX0_fillCell 99 = .ok (.iload_n 3, 1) := by decide +kernel
theorem dX0_fillCell_100 : decode cX0_fillCell 100 = .ok (.iload_n 3, 1) := by decide +kernel
theorem dX0_fillCell_101 : decode cX0_fillCell 101 = .ok (.bipush 11, 2) := by decide +kernel
theorem dX0_fillCell_103 : decode cX0_fillCell 103 = .ok (.isub, 1) := by decide +kernel
theorem dX0_fillCell_104 : decode cX0_fillCell 104 = .ok (.iconst 1, 1) := by decide +kernel
theorem dX0_fillCell_105 : decode cX0_fillCell 105 = .ok (.isub, 1) := by decide +kernel
theorem dX0_fillCell_106 : decode cX0_fillCell 106 = .ok (.iconst 0, 1) := by decide +kernel
theorem dX0_fillCell_107 : decode cX0_fillCell 107 = .ok (.iload 4, 2) := by decide +kernel
theorem dX0_fillCell_109 : decode cX0_fillCell 109 = .ok (.invokevirtual 82, 3) := by decide +kernel
theorem dX0_fillCell_112 : decode cX0_fillCell 112 = .ok (.iload_n 1, 1) := by decide +kernel
theorem dX0_fillCell_113 : decode cX0_fillCell 113 = .ok (.ifCond .le 14, 3) := by decide +kernel
theorem dX0_fillCell_116 : decode cX0_fillCell 116 = .ok (.aload_n 0, 1) := by decide +kernel
theorem dX0_fillCell_117 : decode cX0_fillCell 117 = .ok (.iload_n 3, 1) := by decide +kernel
theorem dX0_fillCell_118 : decode cX0_fillCell 118 = .ok (.iload_n 3, 1) := by decide +kernel
theorem dX0_fillCell_119 : decode cX0_fillCell 119 = .ok (.bipush 11, 2) := by decide +kernel
theorem dX0_fillCell_121 : decode cX0_fillCell 121 = .ok (.isub, 1) := by decide +kernel
theorem dX0_fillCell_122 : decode cX0_fillCell 122 = .ok (.iconst 1, 1) := by decide +kernel
theorem dX0_fillCell_123 : decode cX0_fillCell 123 = .ok (.iconst 0, 1) := by decide +kernel
theorem dX0_fillCell_124 : decode cX0_fillCell 124 = .ok (.invokevirtual 82, 3) := by decide +kernel
theorem dX0_fillCell_127 : decode cX0_fillCell 127 = .ok (.iload_n 2, 1) := by decide +kernel
theorem dX0_fillCell_128 : decode cX0_fillCell 128 = .ok (.ifCond .le 13, 3) := by decide +kernel
theorem dX0_fillCell_131 : decode cX0_fillCell 131 = .ok (.aload_n 0, 1) := by decide +kernel
theorem dX0_fillCell_132 : decode cX0_fillCell 132 = .ok (.iload_n 3, 1) := by decide +kernel
theorem dX0_fillCell_133 : decode cX0_fillCell 133 = .ok (.iload_n 3, 1) := by decide +kernel
theorem dX0_fillCell_134 : decode cX0_fillCell 134 = .ok (.iconst 1, 1) := by decide +kernel
theorem dX0_fillCell_135 : decode cX0_fillCell 135 = .ok (.isub, 1) := by decide +kernel
theorem dX0_fillCell_136 : decode cX0_fillCell 136 = .ok (.iconst 2, 1) := by decide +kernel
theorem dX0_fillCell_137 : decode cX0_fillCell 137 = .ok (.iconst 0, 1) := by decide +kernel
theorem dX0_fillCell_138 : decode cX0_fillCell 138 = .ok (.invokevirtual 82, 3) := by decide +kernel
theorem dX0_fillCell_141 : decode cX0_fillCell 141 = .ok (.return_, 1) := by decide +kernel
theorem dX0_mayBegin_0 : decode cX0_mayBegin 0 = .ok (.aload_n 0, 1) := by decide +kernel
theorem dX0_mayBegin_1 : decode cX0_mayBegin 1 = .ok (.getfield 67, 3) := by decide +kernel
theorem dX0_mayBegin_4 : decode cX0_mayBegin 4 = .ok (.iconst 3, 1) := by decide +kernel
theorem dX0_mayBegin_5 : decode cX0_mayBegin 5 = .ok (.if_icmp .ne 5, 3) := by decide +kernel
theorem dX0_mayBegin_8 : decode cX0_mayBegin 8 = .ok (.iconst 1, 1) := by decide +kernel
theorem dX0_mayBegin_9 : decode cX0_mayBegin 9 = .ok (.ireturn, 1) := by decide +kernel
theorem dX0_mayBegin_10 : decode cX0_mayBegin 10 = .ok (.aload_n 0, 1) := by decide +kernel
theorem dX0_mayBegin_11 : decode cX0_mayBegin 11 = .ok (.getfield 67, 3) := by decide +kernel
theorem dX0_mayBegin_14 : decode cX0_mayBegin 14 = .ok (.iconst 1, 1) := by decide +kernel
theorem dX0_mayBegin_15 : decode cX0_mayBegin 15 = .ok (.if_icmp .ne 13, 3) := by decide +kernel
theorem dX0_mayBegin_18 : decode cX0_mayBegin 18 = .ok (.iload_n 1, 1) := by decide +kernel
theorem dX0_mayBegin_19 : decode cX0_mayBegin 19 = .ok (.ifCond .ne 7, 3) := by decide +kernel
theorem dX0_mayBegin_22 : decode cX0_mayBegin 22 = .ok (.iconst 1, 1) := by decide +kernel
theorem dX0_mayBegin_23 : decode cX0_mayBegin 23 = .ok (.goto 4, 3) := by decide +kernel
theorem dX0_mayBegin_26 : decode cX0_mayBegin 26 = .ok (.iconst 0, 1) := by decide +kernel
theorem dX0_mayBegin_27 : decode cX0_mayBegin 27 = .ok (.ireturn, 1) := by decide +kernel
theorem dX0_mayBegin_28 : decode cX0_mayBegin 28 = .ok (.aload_n 0, 1) := by decide +kernel
theorem dX0_mayBegin_29 : decode cX0_mayBegin 29 = .ok (.getfield 67, 3) := by decide +kernel
theorem dX0_mayBegin_32 : decode cX0_mayBegin 32 = .ok (.iconst 2, 1) := by decide +kernel
theorem dX0_mayBegin_33 : decode cX0_mayBegin 33 = .ok (.if_icmp .ne 13, 3) := by decide +kernel
theorem dX0_mayBegin_36 : decode cX0_mayBegin 36 = .ok (.iload_n 2, 1) := by decide +kernel
theorem dX0_mayBegin_37 : decode cX0_mayBegin 37 = .ok (.ifCond .ne 7, 3) := by decide +kernel
theorem dX0_mayBegin_40 : decode cX0_mayBegin 40 = .ok (.iconst 1, 1) := by decide +kernel
end
section
set_option maxRecDepth 100000
theorem dX0_mayBegin_41 : decode cX0_mayBegin 41 = .ok (.goto 4, 3) := by decide +kernel
theorem dX0_mayBegin_44 : decode cX0_mayBegin 44 = .ok (.iconst 0, 1) := by decide +kernel
theorem dX0_mayBegin_45 : decode cX0_mayBegin 45 = .ok (.ireturn, 1) := by decide +kernel
theorem dX0_mayBegin_46 : decode cX0_mayBegin 46 = .ok (.iload_n 1, 1) := by decide +kernel
theorem dX0_mayBegin_47 : decode cX0_mayBegin 47 = .ok (.ifCond .ne 11, 3) := by decide +kernel
theorem dX0_mayBegin_50 : decode cX0_mayBegin 50 = .ok (.iload_n 2, 1) := by decide +kernel
theorem dX0_mayBegin_51 : decode cX0_mayBegin 51 = .ok (.ifCond .ne 7, 3) := by decide +kernel
theorem dX0_mayBegin_54 : decode cX0_mayBegin 54 = .ok (.iconst 1, 1) := by decide +kernel
theorem dX0_mayBegin_55 : decode cX0_mayBegin 55 = .ok (.goto 4, 3) := by decide +kernel
theorem dX0_mayBegin_58 : decode cX0_mayBegin 58 = .ok (.iconst 0, 1) := by decide +kernel
theorem dX0_mayBegin_59 : decode cX0_mayBegin 59 = .ok (.ireturn, 1) := by decide +kernel
theorem dX0_offer_0 : decode cX0_offer 0 = .ok (.bipush 121, 2) := by decide +kernel
theorem dX0_offer_2 : decode cX0_offer 2 = .ok (.iload_n 2, 1) := by decide +kernel
theorem dX0_offer_3 : decode cX0_offer 3 = .ok (.imul, 1) := by decide +kernel
theorem dX0_offer_4 : decode cX0_offer 4 = .ok (.iload_n 1, 1) := by decide +kernel
theorem dX0_offer_5 : decode cX0_offer 5 = .ok (.iadd, 1) := by decide +kernel
theorem dX0_offer_6 : decode cX0_offer 6 = .ok (.istore 5, 2) := by decide +kernel
theorem dX0_offer_8 : decode cX0_offer 8 = .ok (.iload_n 3, 1) := by decide +kernel
theorem dX0_offer_9 : decode cX0_offer 9 = .ok (.aload_n 0, 1) := by decide +kernel
theorem dX0_offer_10 : decode cX0_offer 10 = .ok (.getfield 16, 3) := by decide +kernel
theorem dX0_offer_13 : decode cX0_offer 13 = .ok (.iload 5, 2) := by decide +kernel
theorem dX0_offer_15 : decode cX0_offer 15 = .ok (.iaload, 1) := by decide +kernel
theorem dX0_offer_16 : decode cX0_offer 16 = .ok (.if_icmp .ge 4, 3) := by decide +kernel
theorem dX0_offer_19 : decode cX0_offer 19 = .ok (.return_, 1) := by decide +kernel
theorem dX0_offer_20 : decode cX0_offer 20 = .ok (.iload_n 3, 1) := by decide +kernel
theorem dX0_offer_21 : decode cX0_offer 21 = .ok (.aload_n 0, 1) := by decide +kernel
theorem dX0_offer_22 : decode cX0_offer 22 = .ok (.getfield 16, 3) := by decide +kernel
theorem dX0_offer_25 : decode cX0_offer 25 = .ok (.iload 5, 2) := by decide +kernel
theorem dX0_offer_27 : decode cX0_offer 27 = .ok (.iaload, 1) := by decide +kernel
theorem dX0_offer_28 : decode cX0_offer 28 = .ok (.if_icmp .le 11, 3) := by decide +kernel
theorem dX0_offer_31 : decode cX0_offer 31 = .ok (.aload_n 0, 1) := by decide +kernel
theorem dX0_offer_32 : decode cX0_offer 32 = .ok (.getfield 20, 3) := by decide +kernel
theorem dX0_offer_35 : decode cX0_offer 35 = .ok (.iload 5, 2) := by decide +kernel
theorem dX0_offer_37 : decode cX0_offer 37 = .ok (.iconst 0, 1) := by decide +kernel
theorem dX0_offer_38 : decode cX0_offer 38 = .ok (.iastore, 1) := by decide +kernel
theorem dX0_offer_39 : decode cX0_offer 39 = .ok (.aload_n 0, 1) := by decide +kernel
theorem dX0_offer_40 : decode cX0_offer 40 = .ok (.getfield 16, 3) := by decide +kernel
theorem dX0_offer_43 : decode cX0_offer 43 = .ok (.iload 5, 2) := by decide +kernel
theorem dX0_offer_45 : decode cX0_offer 45 = .ok (.iload_n 3, 1) := by decide +kernel
theorem dX0_offer_46 : decode cX0_offer 46 = .ok (.iastore, 1) := by decide +kernel
theorem dX0_offer_47 : decode cX0_offer 47 = .ok (.aload_n 0, 1) := by decide +kernel
theorem dX0_offer_48 : decode cX0_offer 48 = .ok (.getfield 20, 3) := by decide +kernel
theorem dX0_offer_51 : decode cX0_offer 51 = .ok (.iload 5, 2) := by decide +kernel
theorem dX0_offer_53 : decode cX0_offer 53 = .ok (.dup2, 1) := by decide +kernel
theorem dX0_offer_54 : decode cX0_offer 54 = .ok (.iaload, 1) := by decide +kernel
theorem dX0_offer_55 : decode cX0_offer 55 = .ok (.iload 4, 2) := by decide +kernel
theorem dX0_offer_57 : decode cX0_offer 57 = .ok (.iadd, 1) := by decide +kernel
theorem dX0_offer_58 : decode cX0_offer 58 = .ok (.iastore, 1) := by decide +kernel
theorem dX0_offer_59 : decode cX0_offer 59 = .ok (.return_, 1) := by decide +kernel
theorem dX0_gain_0 : decode cX0_gain 0 = .ok (.aload_n 0, 1) := by decide +kernel
theorem dX0_gain_1 : decode cX0_gain 1 = .ok (.getfield 13, 3) := by decide +kernel
theorem dX0_gain_4 : decode cX0_gain 4 = .ok (.iload_n 1, 1) := by decide +kernel
theorem dX0_gain_5 : decode cX0_gain 5 = .ok (.baload, 1) := by decide +kernel
theorem dX0_gain_6 : decode cX0_gain 6 = .ok (.aload_n 0, 1) := by decide +kernel
theorem dX0_gain_7 : decode cX0_gain 7 = .ok (.getfield 13, 3) := by decide +kernel
theorem dX0_gain_10 : decode cX0_gain 10 = .ok (.bipush 10, 2) := by decide +kernel
theorem dX0_gain_12 : decode cX0_gain 12 = .ok (.iload_n 2, 1) := by decide +kernel
theorem dX0_gain_13 : decode cX0_gain 13 = .ok (.iadd, 1) := by decide +kernel
theorem dX0_gain_14 : decode cX0_gain 14 = .ok (.baload, 1) := by decide +kernel
theorem dX0_gain_15 : decode cX0_gain 15 = .ok (.if_icmp .ne 10, 3) := by decide +kernel
theorem dX0_gain_18 : decode cX0_gain 18 = .ok (.aload_n 0, 1) := by decide +kernel
theorem dX0_gain_19 : decode cX0_gain 19 = .ok (.getfield 29, 3) := by decide +kernel
theorem dX0_gain_22 : decode cX0_gain 22 = .ok (.goto 7, 3) := by decide +kernel
theorem dX0_gain_25 : decode cX0_gain 25 = .ok (.aload_n 0, 1) := by decide +kernel
theorem dX0_gain_26 : decode cX0_gain 26 = .ok (.getfield 33, 3) := by decide +kernel
theorem dX0_gain_29 : decode cX0_gain 29 = .ok (.ireturn, 1) := by decide +kernel
theorem dX0_extend_0 : decode cX0_extend 0 = .ok (.iconst 0, 1) := by decide +kernel
theorem dX0_extend_1 : decode cX0_extend 1 = .ok (.istore 5, 2) := by decide +kernel
theorem dX0_extend_3 : decode cX0_extend 3 = .ok (.iload 5, 2) := by decide +kernel
theorem dX0_extend_5 : decode cX0_extend 5 = .ok (.iconst 3, 1) := by decide +kernel
theorem dX0_extend_6 : decode cX0_extend 6 = .ok (.if_icmp .ge 68, 3) := by decide +kernel
theorem dX0_extend_9 : decode cX0_extend 9 = .ok (.aload_n 0, 1) := by decide +kernel
theorem dX0_extend_10 : decode cX0_extend 10 = .ok (.getfield 16, 3) := by decide +kernel
theorem dX0_extend_13 : decode cX0_extend 13 = .ok (.bipush 121, 2) := by decide +kernel
theorem dX0_extend_15 : decode cX0_extend 15 = .ok (.iload 5, 2) := by decide +kernel
theorem dX0_extend_17 : decode cX0_extend 17 = .ok (.imul, 1) := by decide +kernel
theorem dX0_extend_18 : decode cX0_extend 18 = .ok (.iload_n 2, 1) := by decide +kernel
theorem dX0_extend_19 : decode cX0_extend 19 = .ok (.iadd, 1) := by decide +kernel
theorem dX0_extend_20 : decode cX0_extend 20 = .ok (.iaload, 1) := by decide +kernel
theorem dX0_extend_21 : decode cX0_extend 21 = .ok (.istore 6, 2) := by decide +kernel
theorem dX0_extend_23 : decode cX0_extend 23 = .ok (.iload 6, 2) := by decide +kernel
theorem dX0_extend_25 : decode cX0_extend 25 = .ok (.ldc 60, 2) := by decide +kernel
theorem dX0_extend_27 : decode cX0_extend 27 = .ok (.if_icmp .gt 6, 3) := by decide +kernel
theorem dX0_extend_30 : decode cX0_extend 30 = .ok (.goto 38, 3) := by decide +kernel
theorem dX0_extend_33 : decode cX0_extend 33 = .ok (.iload 6, 2) := by decide +kernel
theorem dX0_extend_35 : decode cX0_extend 35 = .ok (.iload 4, 2) := by decide +kernel
theorem dX0_extend_37 : decode cX0_extend 37 = .ok (.iadd, 1) := by decide +kernel
theorem dX0_extend_38 : decode cX0_extend 38 = .ok (.aload_n 0, 1) := by decide +kernel
theorem dX0_extend_39 : decode cX0_extend 39 = .ok (.iload 5, 2) := by decide +kernel
theorem dX0_extend_41 : decode cX0_extend 41 = .ok (.iload_n 3, 1) := by decide +kernel
theorem dX0_extend_42 : decode cX0_extend 42 = .ok (.invokevirtual 85, 3) := by decide +kernel
theorem dX0_extend_45 : decode cX0_extend 45 = .ok (.isub, 1) := by decide +kernel
theorem dX0_extend_46 : decode cX0_extend 46 = .ok (.istore 7, 2) := by decide +kernel
theorem dX0_extend_48 : decode cX0_extend 48 = .ok (.aload_n 0, 1) := by decide +kernel
theorem dX0_extend_49 : decode cX0_extend 49 = .ok (.iload_n 1, 1) := by decide +kernel
theorem dX0_extend_50 : decode cX0_extend 50 = .ok (.iload_n 3, 1) := by decide +kernel
theorem dX0_extend_51 : decode cX0_extend 51 = .ok (.iload 7, 2) := by decide +kernel
theorem dX0_extend_53 : decode cX0_extend 53 = .ok (.aload_n 0, 1) := by decide +kernel
theorem dX0_extend_54 : decode cX0_extend 54 = .ok (.getfield 20, 3) := by decide +kernel
theorem dX0_extend_57 : decode cX0_extend 57 = .ok (.bipush 121, 2) := by decide +kernel
theorem dX0_extend_59 : decode cX0_extend 59 = .ok (.iload 5, 2) := by decide +kernel
theorem dX0_extend_61 : decode cX0_extend 61 = .ok (.imul, 1) := by decide +kernel
theorem dX0_extend_62 : decode cX0_extend 62 = .ok (.iload_n 2, 1) := by decide +kernel
theorem dX0_extend_63 : decode cX0_extend 63 = .ok (.iadd, 1) := by decide +kernel
theorem dX0_extend_64 : decode cX0_extend 64 = .ok (.iaload, 1) := by decide +kernel
theorem dX0_extend_65 : decode cX0_extend 65 = .ok (.invokevirtual 78, 3) := by decide +kernel
theorem dX0_extend_68 : decode cX0_extend 68 = .ok (.iinc 5 1, 3) := by decide +kernel
theorem dX0_extend_71 : decode cX0_extend 71 = .ok (.goto (-68), 3) := by decide +kernel
theorem dX0_extend_74 : decode cX0_extend 74 = .ok (.return_, 1) := by decide +kernel
theorem dX0_costOf_0 : decode cX0_costOf 0 = .ok (.iload_n 2, 1) := by decide +kernel
theorem dX0_costOf_1 : decode cX0_costOf 1 = .ok (.ifCond .ne 5, 3) := by decide +kernel
theorem dX0_costOf_4 : decode cX0_costOf 4 = .ok (.iconst 0, 1) := by decide +kernel
theorem dX0_costOf_5 : decode cX0_costOf 5 = .ok (.ireturn, 1) := by decide +kernel
theorem dX0_costOf_6 : decode cX0_costOf 6 = .ok (.iload_n 1, 1) := by decide +kernel
theorem dX0_costOf_7 : decode cX0_costOf 7 = .ok (.iload_n 2, 1) := by decide +kernel
theorem dX0_costOf_8 : decode cX0_costOf 8 = .ok (.if_icmp .ne 10, 3) := by decide +kernel
theorem dX0_costOf_11 : decode cX0_costOf 11 = .ok (.aload_n 0, 1) := by decide +kernel
theorem dX0_costOf_12 : decode cX0_costOf 12 = .ok (.getfield 39, 3) := by decide +kernel
theorem dX0_costOf_15 : decode cX0_costOf 15 = .ok (.goto 12, 3) := by decide +kernel
theorem dX0_costOf_18 : decode cX0_costOf 18 = .ok (.aload_n 0, 1) := by decide +kernel
theorem dX0_costOf_19 : decode cX0_costOf 19 = .ok (.getfield 36, 3) := by decide +kernel
theorem dX0_costOf_22 : decode cX0_costOf 22 = .ok (.aload_n 0, 1) := by decide +kernel
theorem dX0_costOf_23 : decode cX0_costOf 23 = .ok (.getfield 39, 3) := by decide +kernel
theorem dX0_costOf_26 : decode cX0_costOf 26 = .ok (.iadd, 1) := by decide +kernel
theorem dX0_costOf_27 : decode cX0_costOf 27 = .ok (.ireturn, 1) := by decide +kernel
theorem dX0_bestAt_0 : decode cX0_bestAt 0 = .ok (.bipush 11, 2) := by decide +kernel
theorem dX0_bestAt_2 : decode cX0_bestAt 2 = .ok (.iload_n 1, 1) := by decide +kernel
theorem dX0_bestAt_3 : decode cX0_bestAt 3 = .ok (.imul, 1) := by decide +kernel
theorem dX0_bestAt_4 : decode cX0_bestAt 4 = .ok (.iload_n 2, 1) := by decide +kernel
theorem dX0_bestAt_5 : decode cX0_bestAt 5 = .ok (.iadd, 1) := by decide +kernel
theorem dX0_bestAt_6 : decode cX0_bestAt 6 = .ok (.istore_n 3, 1) := by decide +kernel
theorem dX0_bestAt_7 : decode cX0_bestAt 7 = .ok (.aload_n 0, 1) := by decide +kernel
theorem dX0_bestAt_8 : decode cX0_bestAt 8 = .ok (.getfield 16, 3) := by decide +kernel
theorem dX0_bestAt_11 : decode cX0_bestAt 11 = .ok (.iload_n 3, 1) := by decide +kernel
theorem dX0_bestAt_12 : decode cX0_bestAt 12 = .ok (.iaload, 1) := by decide +kernel
theorem dX0_bestAt_13 : decode cX0_bestAt 13 = .ok (.istore 4, 2) := by decide +kernel
theorem dX0_bestAt_15 : decode cX0_bestAt 15 = .ok (.aload_n 0, 1) := by decide +kernel
theorem dX0_bestAt_16 : decode cX0_bestAt 16 = .ok (.getfield 16, 3) := by decide +kernel
theorem dX0_bestAt_19 : decode cX0_bestAt 19 = .ok (.bipush 121, 2) := by decide +kernel
theorem dX0_bestAt_21 : decode cX0_bestAt 21 = .ok (.iload_n 3, 1) := by decide +kernel
theorem dX0_bestAt_22 : decode cX0_bestAt 22 = .ok (.iadd, 1) := by decide +kernel
theorem dX0_bestAt_23 : decode cX0_bestAt 23 = .ok (.iaload, 1) := by decide +kernel
theorem dX0_bestAt_24 : decode cX0_bestAt 24 = .ok (.iload 4, 2) := by decide +kernel
theorem dX0_bestAt_26 : decode cX0_bestAt 26 = .ok (.if_icmp .le 14, 3) := by decide +kernel
theorem dX0_bestAt_29 : decode cX0_bestAt 29 = .ok (.aload_n 0, 1) := by decide +kernel
theorem dX0_bestAt_30 : decode cX0_bestAt 30 = .ok (.getfield 16, 3) := by decide +kernel
theorem dX0_bestAt_33 : decode cX0_bestAt 33 = .ok (.bipush 121, 2) := by decide +kernel
theorem dX0_bestAt_35 : decode cX0_bestAt 35 = .ok (.iload_n 3, 1) := by decide +kernel
theorem dX0_bestAt_36 : decode cX0_bestAt 36 = .ok (.iadd, 1) := by decide +kernel
theorem dX0_bestAt_37 : decode cX0_bestAt 37 = .ok (.iaload, 1) := by decide +kernel
theorem dX0_bestAt_38 : decode cX0_bestAt 38 = .ok (.istore 4, 2) := by decide +kernel
theorem dX0_bestAt_40 : decode cX0_bestAt 40 = .ok (.aload_n 0, 1) := by decide +kernel
theorem dX0_bestAt_41 : decode cX0_bestAt 41 = .ok (.getfield 16, 3) := by decide +kernel
theorem dX0_bestAt_44 : decode cX0_bestAt 44 = .ok (.sipush 242, 3) := by decide +kernel
theorem dX0_bestAt_47 : decode cX0_bestAt 47 = .ok (.iload_n 3, 1) := by decide +kernel
theorem dX0_bestAt_48 : decode cX0_bestAt 48 = .ok (.iadd, 1) := by decide +kernel
theorem dX0_bestAt_49 : decode cX0_bestAt 49 = .ok (.iaload, 1) := by decide +kernel
theorem dX0_bestAt_50 : decode cX0_bestAt 50 = .ok (.iload 4, 2) := by decide +kernel
theorem dX0_bestAt_52 : decode cX0_bestAt 52 = .ok (.if_icmp .le 15, 3) := by decide +kernel
theorem dX0_bestAt_55 : decode cX0_bestAt 55 = .ok (.aload_n 0, 1) := by decide +kernel
theorem dX0_bestAt_56 : decode cX0_bestAt 56 = .ok (.getfield 16, 3) := by decide +kernel
theorem dX0_bestAt_59 : decode cX0_bestAt 59 = .ok (.sipush 242, 3) := by decide +kernel
theorem dX0_bestAt_62 : decode cX0_bestAt 62 = .ok (.iload_n 3, 1) := by decide +kernel
theorem dX0_bestAt_63 : decode cX0_bestAt 63 = .ok (.iadd, 1) := by decide +kernel
theorem dX0_bestAt_64 : decode cX0_bestAt 64 = .ok (.iaload, 1) := by decide +kernel
theorem dX0_bestAt_65 : decode cX0_bestAt 65 = .ok (.istore 4, 2) := by decide +kernel
theorem dX0_bestAt_67 : decode cX0_bestAt 67 = .ok (.iload 4, 2) := by decide +kernel
theorem dX0_bestAt_69 : decode cX0_bestAt 69 = .ok (.ireturn, 1) := by decide +kernel
theorem dX0_ways_0 : decode cX0_ways 0 = .ok (.aload_n 0, 1) := by decide +kernel
theorem dX0_ways_1 : decode cX0_ways 1 = .ok (.invokevirtual 50, 3) := by decide +kernel
theorem dX0_ways_4 : decode cX0_ways 4 = .ok (.istore_n 1, 1) := by decide +kernel
theorem dX0_ways_5 : decode cX0_ways 5 = .ok (.iconst 0, 1) := by decide +kernel
theorem dX0_ways_6 : decode cX0_ways 6 = .ok (.istore_n 2, 1) := by decide +kernel
theorem dX0_ways_7 : decode cX0_ways 7 = .ok (.bipush 11, 2) := by decide +kernel
theorem dX0_ways_9 : decode cX0_ways 9 = .ok (.aload_n 0, 1) := by decide +kernel
theorem dX0_ways_10 : decode cX0_ways 10 = .ok (.getfield 7, 3) := by decide +kernel
theorem dX0_ways_13 : decode cX0_ways 13 = .ok (.iconst 0, 1) := by decide +kernel
theorem dX0_ways_14 : decode cX0_ways 14 = .ok (.baload, 1) := by decide +kernel
theorem dX0_ways_15 : decode cX0_ways 15 = .ok (.imul, 1) := by decide +kernel
theorem dX0_ways_16 : decode cX0_ways 16 = .ok (.aload_n 0, 1) := by decide +kernel
theorem dX0_ways_17 : decode cX0_ways 17 = .ok (.getfield 7, 3) := by decide +kernel
theorem dX0_ways_20 : decode cX0_ways 20 = .ok (.iconst 1, 1) := by decide +kernel
theorem dX0_ways_21 : decode cX0_ways 21 = .ok (.baload, 1) := by decide +kernel
theorem dX0_ways_22 : decode cX0_ways 22 = .ok (.iadd, 1) := by decide +kernel
theorem dX0_ways_23 : decode cX0_ways 23 = .ok (.istore_n 3, 1) := by decide +kernel
theorem dX0_ways_24 : decode cX0_ways 24 = .ok (.iconst 0, 1) := by decide +kernel
theorem dX0_ways_25 : decode cX0_ways 25 = .ok (.istore 4, 2) := by decide +kernel
theorem dX0_ways_27 : decode cX0_ways 27 = .ok (.iload 4, 2) := by decide +kernel
theorem dX0_ways_29 : decode cX0_ways 29 = .ok (.iconst 3, 1) := by decide +kernel
theorem dX0_ways_30 : decode cX0_ways 30 = .ok (.if_icmp .ge 40, 3) := by decide +kernel
theorem dX0_ways_33 : decode cX0_ways 33 = .ok (.aload_n 0, 1) := by decide +kernel
theorem dX0_ways_34 : decode cX0_ways 34 = .ok (.getfield 16, 3) := by decide +kernel
theorem dX0_ways_37 : decode cX0_ways 37 = .ok (.bipush 121, 2) := by decide +kernel
theorem dX0_ways_39 : decode cX0_ways 39 = .ok (.iload 4, 2) := by decide +kernel
theorem dX0_ways_41 : decode cX0_ways 41 = .ok (.imul, 1) := by decide +kernel
theorem dX0_ways_42 : decode cX0_ways 42 = .ok (.iload_n 3, 1) := by decide +kernel
theorem dX0_ways_43 : decode cX0_ways 43 = .ok (.iadd, 1) := by decide +kernel
theorem dX0_ways_44 : decode cX0_ways 44 = .ok (.iaload, 1) := by decide +kernel
theorem dX0_ways_45 : decode cX0_ways 45 = .ok (.iload_n 1, 1) := by decide +kernel
theorem dX0_ways_46 : decode cX0_ways 46 = .ok (.if_icmp .ne 18, 3) := by decide +kernel
theorem dX0_ways_49 : decode cX0_ways 49 = .ok (.iload_n 2, 1) := by decide +kernel
theorem dX0_ways_50 : decode cX0_ways 50 = .ok (.aload_n 0, 1) := by decide +kernel
theorem dX0_ways_51 : decode cX0_ways 51 = .ok (.getfield 20, 3) := by decide +kernel
theorem dX0_ways_54 : decode cX0_ways 54 = .ok (.bipush 121, 2) := by decide +kernel
theorem dX0_ways_56 : decode cX0_ways 56 = .ok (.iload 4, 2) := by decide +kernel
theorem dX0_ways_58 : decode cX0_ways 58 = .ok (.imul, 1) := by decide +kernel
theorem dX0_ways_59 : decode cX0_ways 59 = .ok (.iload_n 3, 1) := by decide +kernel
theorem dX0_ways_60 : decode cX0_ways 60 = .ok (.iadd, 1) := by decide +kernel
theorem dX0_ways_61 : decode cX0_ways 61 = .ok (.iaload, 1) := by decide +kernel
theorem dX0_ways_62 : decode cX0_ways 62 = .ok (.iadd, 1) := by decide +kernel
theorem dX0_ways_63 : decode cX0_ways 63 = .ok (.istore_n 2, 1) := by decide +kernel
theorem dX0_ways_64 : decode cX0_ways 64 = .ok (.iinc 4 1, 3) := by decide +kernel
theorem dX0_ways_67 : decode cX0_ways 67 = .ok (.goto (-40), 3) := by decide +kernel
theorem dX0_ways_70 : decode cX0_ways 70 = .ok (.iload_n 2, 1) := by decide +kernel
theorem dX0_ways_71 : decode cX0_ways 71 = .ok (.ireturn, 1) := by decide +kernel
theorem dX0_column_0 : decode cX0_column 0 = .ok (.aload_n 0, 1) := by decide +kernel
theorem dX0_column_1 : decode cX0_column 1 = .ok (.invokevirtual 54, 3) := by decide +kernel
theorem dX0_column_4 : decode cX0_column 4 = .ok (.iload_n 1, 1) := by decide +kernel
theorem dX0_column_5 : decode cX0_column 5 = .ok (.ifCond .lt 11, 3) := by decide +kernel
theorem dX0_column_8 : decode cX0_column 8 = .ok (.iload_n 1, 1) := by decide +kernel
theorem dX0_column_9 : decode cX0_column 9 = .ok (.aload_n 0, 1) := by decide +kernel
theorem dX0_column_10 : decode cX0_column 10 = .ok (.getfield 57, 3) := by decide +kernel
theorem dX0_column_13 : decode cX0_column 13 = .ok (.if_icmp .lt 9, 3) := by decide +kernel
theorem dX0_column_16 : decode cX0_column 16 = .ok (.sipush (-1000), 3) := by decide +kernel
theorem dX0_column_19 : decode cX0_column 19 = .ok (.goto 9, 3) := by decide +kernel
theorem dX0_column_22 : decode cX0_column 22 = .ok (.aload_n 0, 1) := by decide +kernel
theorem dX0_column_23 : decode cX0_column 23 = .ok (.getfield 26, 3) := by decide +kernel
theorem dX0_column_26 : decode cX0_column 26 = .ok (.iload_n 1, 1) := by decide +kernel
theorem dX0_column_27 : decode cX0_column 27 = .ok (.baload, 1) := by decide +kernel
theorem dX0_column_28 : decode cX0_column 28 = .ok (.ireturn, 1) := by decide +kernel
theorem dX0_findFirst_0 : decode cX0_findFirst 0 = .ok (.aload_n 0, 1) := by decide +kernel
theorem dX0_findFirst_1 : decode cX0_findFirst 1 = .ok (.invokevirtual 61, 3) := by decide +kernel
theorem dX0_findFirst_4 : decode cX0_findFirst 4 = .ok (.aload_n 0, 1) := by decide +kernel
theorem dX0_findFirst_5 : decode cX0_findFirst 5 = .ok (.iconst 0, 1) := by decide +kernel
theorem dX0_findFirst_6 : decode cX0_findFirst 6 = .ok (.putfield 57, 3) := by decide +kernel
theorem dX0_findFirst_9 : decode cX0_findFirst 9 = .ok (.iconst 0, 1) := by decide +kernel
theorem dX0_findFirst_10 : decode cX0_findFirst 10 = .ok (.istore_n 1, 1) := by decide +kernel
theorem dX0_findFirst_11 : decode cX0_findFirst 11 = .ok (.iconst 0, 1) := by decide +kernel
theorem dX0_findFirst_12 : decode cX0_findFirst 12 = .ok (.istore_n 2, 1) := by decide +kernel
theorem dX0_findFirst_13 : decode cX0_findFirst 13 = .ok (.iconst 0, 1) := by decide +kernel
theorem dX0_findFirst_14 : decode cX0_findFirst 14 = .ok (.istore_n 3, 1) := by decide +kernel
theorem dX0_findFirst_15 : decode cX0_findFirst 15 = .ok (.iload_n 1, 1) := by decide +kernel
theorem dX0_findFirst_16 : decode cX0_findFirst 16 = .ok (.aload_n 0, 1) := by decide +kernel
theorem dX0_findFirst_17 : decode cX0_findFirst 17 = .ok (.getfield 7, 3) := by decide +kernel
theorem dX0_findFirst_20 : decode cX0_findFirst 20 = .ok (.iconst 0, 1) := by decide +kernel
theorem dX0_findFirst_21 : decode cX0_findFirst 21 = .ok (.baload, 1) := by decide +kernel
theorem dX0_findFirst_22 : decode cX0_findFirst 22 = .ok (.if_icmp .lt 13, 3) := by decide +kernel
theorem dX0_findFirst_25 : decode cX0_findFirst 25 = .ok (.iload_n 2, 1) := by decide +kernel
theorem dX0_findFirst_26 : decode cX0_findFirst 26 = .ok (.aload_n 0, 1) := by decide +kernel
theorem dX0_findFirst_27 : decode cX0_findFirst 27 = .ok (.getfield 7, 3) := by decide +kernel
theorem dX0_findFirst_30 : decode cX0_findFirst 30 = .ok (.iconst 1, 1) := by decide +kernel
theorem dX0_findFirst_31 : decode cX0_findFirst 31 = .ok (.baload, 1) := by decide +kernel
theorem dX0_findFirst_32 : decode cX0_findFirst 32 = .ok (.if_icmp .ge 96, 3) := by decide +kernel
theorem dX0_findFirst_35 : decode cX0_findFirst 35 = .ok (.aload_n 0, 1) := by decide +kernel
theorem dX0_findFirst_36 : decode cX0_findFirst 36 = .ok (.getfield 23, 3) := by decide +kernel
theorem dX0_findFirst_39 : decode cX0_findFirst 39 = .ok (.bipush 121, 2) := by decide +kernel
theorem dX0_findFirst_41 : decode cX0_findFirst 41 = .ok (.iload_n 3, 1) := by decide +kernel
theorem dX0_findFirst_42 : decode cX0_findFirst 42 = .ok (.imul, 1) := by decide +kernel
theorem dX0_findFirst_43 : decode cX0_findFirst 43 = .ok (.bipush 11, 2) := by decide +kernel
theorem dX0_findFirst_45 : decode cX0_findFirst 45 = .ok (.iload_n 1, 1) := by decide +kernel
theorem dX0_findFirst_46 : decode cX0_findFirst 46 = .ok (.imul, 1) := by decide +kernel
theorem dX0_findFirst_47 : decode cX0_findFirst 47 = .ok (.iadd, 1) := by decide +kernel
theorem dX0_findFirst_48 : decode cX0_findFirst 48 = .ok (.iload_n 2, 1) := by decide +kernel
theorem dX0_findFirst_49 : decode cX0_findFirst 49 = .ok (.iadd, 1) := by decide +kernel
theorem dX0_findFirst_50 : decode cX0_findFirst 50 = .ok (.iaload, 1) := by decide +kernel
theorem dX0_findFirst_51 : decode cX0_findFirst 51 = .ok (.istore 4, 2) := by decide +kernel
theorem dX0_findFirst_53 : decode cX0_findFirst 53 = .ok (.iconst 0, 1) := by decide +kernel
theorem dX0_findFirst_54 : decode cX0_findFirst 54 = .ok (.istore 5, 2) := by decide +kernel
theorem dX0_findFirst_56 : decode cX0_findFirst 56 = .ok (.iload 5, 2) := by decide +kernel
theorem dX0_findFirst_58 : decode cX0_findFirst 58 = .ok (.iconst 2, 1) := by decide +kernel
theorem dX0_findFirst_59 : decode cX0_findFirst 59 = .ok (.if_icmp .ge 23, 3) := by decide +kernel
theorem dX0_findFirst_62 : decode cX0_findFirst 62 = .ok (.aload_n 0, 1) := by decide +kernel
theorem dX0_findFirst_63 : decode cX0_findFirst 63 = .ok (.iload_n 1, 1) := by decide +kernel
theorem dX0_findFirst_64 : decode cX0_findFirst 64 = .ok (.iload_n 2, 1) := by decide +kernel
theorem dX0_findFirst_65 : decode cX0_findFirst 65 = .ok (.iload_n 3, 1) := by decide +kernel
theorem dX0_findFirst_66 : decode cX0_findFirst 66 = .ok (.iload 5, 2) := by decide +kernel
theorem dX0_findFirst_68 : decode cX0_findFirst 68 = .ok (.invokevirtual 92, 3) := by decide +kernel
theorem dX0_findFirst_71 : decode cX0_findFirst 71 = .ok (.iload 4, 2) := by decide +kernel
theorem dX0_findFirst_73 : decode cX0_findFirst 73 = .ok (.if_icmp .eq 9, 3) := by decide +kernel
theorem dX0_findFirst_76 : decode cX0_findFirst 76 = .ok (.iinc 5 1, 3) := by decide +kernel
theorem dX0_findFirst_79 : decode cX0_findFirst 79 = .ok (.goto (-23), 3) := by decide +kernel
theorem dX0_findFirst_82 : decode cX0_findFirst 82 = .ok (.aload_n 0, 1) := by decide +kernel
theorem dX0_findFirst_83 : decode cX0_findFirst 83 = .ok (.getfield 26, 3) := by decide +kernel
theorem dX0_findFirst_86 : decode cX0_findFirst 86 = .ok (.aload_n 0, 1) := by decide +kernel
theorem dX0_findFirst_87 : decode cX0_findFirst 87 = .ok (.getfield 57, 3) := by decide +kernel
theorem dX0_findFirst_90 : decode cX0_findFirst 90 = .ok (.iload 5, 2) := by decide +kernel
theorem dX0_findFirst_92 : decode cX0_findFirst 92 = .ok (.i2b, 1) := by decide +kernel
theorem dX0_findFirst_93 : decode cX0_findFirst 93 = .ok (.bastore, 1) := by decide +kernel
theorem dX0_findFirst_94 : decode cX0_findFirst 94 = .ok (.aload_n 0, 1) := by decide +kernel
theorem dX0_findFirst_95 : decode cX0_findFirst 95 = .ok (.dup, 1) := by decide +kernel
theorem dX0_findFirst_96 : decode cX0_findFirst 96 = .ok (.getfield 57, 3) := by decide +kernel
theorem dX0_findFirst_99 : decode cX0_findFirst 99 = .ok (.iconst 1, 1) := by decide +kernel
theorem dX0_findFirst_100 : decode cX0_findFirst 100 = .ok (.iadd, 1) := by decide +kernel
theorem dX0_findFirst_101 : decode cX0_findFirst 101 = .ok (.putfield 57, 3) := by decide +kernel
theorem dX0_findFirst_104 : decode cX0_findFirst 104 = .ok (.iload 5, 2) := by decide +kernel
theorem dX0_findFirst_106 : decode cX0_findFirst 106 = .ok (.iconst 2, 1) := by decide +kernel
theorem dX0_findFirst_107 : decode cX0_findFirst 107 = .ok (.if_icmp .eq 6, 3) := by decide +kernel
theorem dX0_findFirst_110 : decode cX0_findFirst 110 = .ok (.iinc 1 1, 3) := by decide +kernel
theorem dX0_findFirst_113 : decode cX0_findFirst 113 = .ok (.iload 5, 2) := by decide +kernel
theorem dX0_findFirst_115 : decode cX0_findFirst 115 = .ok (.iconst 1, 1) := by decide +kernel
theorem dX0_findFirst_116 : decode cX0_findFirst 116 = .ok (.if_icmp .eq 6, 3) := by decide +kernel
theorem dX0_findFirst_119 : decode cX0_findFirst 119 = .ok (.iinc 2 1, 3) := by decide +kernel
end
section
set_option maxRecDepth 100000
theorem dX0_findFirst_122 : decode cX0_findFirst 122 = .ok (.iload 5, 2) := by decide +kernel
theorem dX0_findFirst_124 : decode cX0_findFirst 124 = .ok (.istore_n 3, 1) := by decide +kernel
theorem dX0_findFirst_125 : decode cX0_findFirst 125 = .ok (.goto (-110), 3) := by decide +kernel
theorem dX0_findFirst_128 : decode cX0_findFirst 128 = .ok (.return_, 1) := by decide +kernel
theorem dX0_fillBehind_0 : decode cX0_fillBehind 0 = .ok (.aload_n 0, 1) := by decide +kernel
theorem dX0_fillBehind_1 : decode cX0_fillBehind 1 = .ok (.getfield 7, 3) := by decide +kernel
theorem dX0_fillBehind_4 : decode cX0_fillBehind 4 = .ok (.iconst 0, 1) := by decide +kernel
theorem dX0_fillBehind_5 : decode cX0_fillBehind 5 = .ok (.baload, 1) := by decide +kernel
theorem dX0_fillBehind_6 : decode cX0_fillBehind 6 = .ok (.istore_n 1, 1) := by decide +kernel
theorem dX0_fillBehind_7 : decode cX0_fillBehind 7 = .ok (.iload_n 1, 1) := by decide +kernel
theorem dX0_fillBehind_8 : decode cX0_fillBehind 8 = .ok (.ifCond .lt 62, 3) := by decide +kernel
theorem dX0_fillBehind_11 : decode cX0_fillBehind 11 = .ok (.aload_n 0, 1) := by decide +kernel
theorem dX0_fillBehind_12 : decode cX0_fillBehind 12 = .ok (.getfield 7, 3) := by decide +kernel
theorem dX0_fillBehind_15 : decode cX0_fillBehind 15 = .ok (.iconst 1, 1) := by decide +kernel
theorem dX0_fillBehind_16 : decode cX0_fillBehind 16 = .ok (.baload, 1) := by decide +kernel
theorem dX0_fillBehind_17 : decode cX0_fillBehind 17 = .ok (.istore_n 2, 1) := by decide +kernel
theorem dX0_fillBehind_18 : decode cX0_fillBehind 18 = .ok (.iload_n 2, 1) := by decide +kernel
theorem dX0_fillBehind_19 : decode cX0_fillBehind 19 = .ok (.ifCond .lt 45, 3) := by decide +kernel
theorem dX0_fillBehind_22 : decode cX0_fillBehind 22 = .ok (.iconst 0, 1) := by decide +kernel
theorem dX0_fillBehind_23 : decode cX0_fillBehind 23 = .ok (.istore_n 3, 1) := by decide +kernel
theorem dX0_fillBehind_24 : decode cX0_fillBehind 24 = .ok (.iload_n 3, 1) := by decide +kernel
theorem dX0_fillBehind_25 : decode cX0_fillBehind 25 = .ok (.iconst 3, 1) := by decide +kernel
theorem dX0_fillBehind_26 : decode cX0_fillBehind 26 = .ok (.if_icmp .ge 32, 3) := by decide +kernel
theorem dX0_fillBehind_29 : decode cX0_fillBehind 29 = .ok (.aload_n 0, 1) := by decide +kernel
theorem dX0_fillBehind_30 : decode cX0_fillBehind 30 = .ok (.getfield 23, 3) := by decide +kernel
theorem dX0_fillBehind_33 : decode cX0_fillBehind 33 = .ok (.bipush 121, 2) := by decide +kernel
theorem dX0_fillBehind_35 : decode cX0_fillBehind 35 = .ok (.iload_n 3, 1) := by decide +kernel
theorem dX0_fillBehind_36 : decode cX0_fillBehind 36 = .ok (.imul, 1) := by decide +kernel
theorem dX0_fillBehind_37 : decode cX0_fillBehind 37 = .ok (.bipush 11, 2) := by decide +kernel
theorem dX0_fillBehind_39 : decode cX0_fillBehind 39 = .ok (.iload_n 1, 1) := by decide +kernel
theorem dX0_fillBehind_40 : decode cX0_fillBehind 40 = .ok (.imul, 1) := by decide +kernel
theorem dX0_fillBehind_41 : decode cX0_fillBehind 41 = .ok (.iadd, 1) := by decide +kernel
theorem dX0_fillBehind_42 : decode cX0_fillBehind 42 = .ok (.iload_n 2, 1) := by decide +kernel
theorem dX0_fillBehind_43 : decode cX0_fillBehind 43 = .ok (.iadd, 1) := by decide +kernel
theorem dX0_fillBehind_44 : decode cX0_fillBehind 44 = .ok (.aload_n 0, 1) := by decide +kernel
theorem dX0_fillBehind_45 : decode cX0_fillBehind 45 = .ok (.iload_n 1, 1) := by decide +kernel
theorem dX0_fillBehind_46 : decode cX0_fillBehind 46 = .ok (.iload_n 2, 1) := by decide +kernel
theorem dX0_fillBehind_47 : decode cX0_fillBehind 47 = .ok (.iload_n 3, 1) := by decide +kernel
theorem dX0_fillBehind_48 : decode cX0_fillBehind 48 = .ok (.invokevirtual 88, 3) := by decide +kernel
theorem dX0_fillBehind_51 : decode cX0_fillBehind 51 = .ok (.iastore, 1) := by decide +kernel
theorem dX0_fillBehind_52 : decode cX0_fillBehind 52 = .ok (.iinc 3 1, 3) := by decide +kernel
theorem dX0_fillBehind_55 : decode cX0_fillBehind 55 = .ok (.goto (-31), 3) := by decide +kernel
theorem dX0_fillBehind_58 : decode cX0_fillBehind 58 = .ok (.iinc 2 (-1), 3) := by decide +kernel
theorem dX0_fillBehind_61 : decode cX0_fillBehind 61 = .ok (.goto (-43), 3) := by decide +kernel
theorem dX0_fillBehind_64 : decode cX0_fillBehind 64 = .ok (.iinc 1 (-1), 3) := by decide +kernel
theorem dX0_fillBehind_67 : decode cX0_fillBehind 67 = .ok (.goto (-60), 3) := by decide +kernel
theorem dX0_fillBehind_70 : decode cX0_fillBehind 70 = .ok (.return_, 1) := by decide +kernel
theorem dX0_restAfter_0 : decode cX0_restAfter 0 = .ok (.iload_n 1, 1) := by decide +kernel
theorem dX0_restAfter_1 : decode cX0_restAfter 1 = .ok (.aload_n 0, 1) := by decide +kernel
theorem dX0_restAfter_2 : decode cX0_restAfter 2 = .ok (.getfield 7, 3) := by decide +kernel
theorem dX0_restAfter_5 : decode cX0_restAfter 5 = .ok (.iconst 0, 1) := by decide +kernel
theorem dX0_restAfter_6 : decode cX0_restAfter 6 = .ok (.baload, 1) := by decide +kernel
theorem dX0_restAfter_7 : decode cX0_restAfter 7 = .ok (.if_icmp .ne 15, 3) := by decide +kernel
theorem dX0_restAfter_10 : decode cX0_restAfter 10 = .ok (.iload_n 2, 1) := by decide +kernel
theorem dX0_restAfter_11 : decode cX0_restAfter 11 = .ok (.aload_n 0, 1) := by decide +kernel
theorem dX0_restAfter_12 : decode cX0_restAfter 12 = .ok (.getfield 7, 3) := by decide +kernel
theorem dX0_restAfter_15 : decode cX0_restAfter 15 = .ok (.iconst 1, 1) := by decide +kernel
theorem dX0_restAfter_16 : decode cX0_restAfter 16 = .ok (.baload, 1) := by decide +kernel
theorem dX0_restAfter_17 : decode cX0_restAfter 17 = .ok (.if_icmp .ne 5, 3) := by decide +kernel
theorem dX0_restAfter_20 : decode cX0_restAfter 20 = .ok (.iconst 0, 1) := by decide +kernel
theorem dX0_restAfter_21 : decode cX0_restAfter 21 = .ok (.ireturn, 1) := by decide +kernel
theorem dX0_restAfter_22 : decode cX0_restAfter 22 = .ok (.ldc 60, 2) := by decide +kernel
theorem dX0_restAfter_24 : decode cX0_restAfter 24 = .ok (.istore 4, 2) := by decide +kernel
theorem dX0_restAfter_26 : decode cX0_restAfter 26 = .ok (.iconst 0, 1) := by decide +kernel
theorem dX0_restAfter_27 : decode cX0_restAfter 27 = .ok (.istore 5, 2) := by decide +kernel
theorem dX0_restAfter_29 : decode cX0_restAfter 29 = .ok (.iload 5, 2) := by decide +kernel
theorem dX0_restAfter_31 : decode cX0_restAfter 31 = .ok (.iconst 3, 1) := by decide +kernel
theorem dX0_restAfter_32 : decode cX0_restAfter 32 = .ok (.if_icmp .ge 31, 3) := by decide +kernel
theorem dX0_restAfter_35 : decode cX0_restAfter 35 = .ok (.aload_n 0, 1) := by decide +kernel
theorem dX0_restAfter_36 : decode cX0_restAfter 36 = .ok (.iload_n 1, 1) := by decide +kernel
theorem dX0_restAfter_37 : decode cX0_restAfter 37 = .ok (.iload_n 2, 1) := by decide +kernel
theorem dX0_restAfter_38 : decode cX0_restAfter 38 = .ok (.iload_n 3, 1) := by decide +kernel
theorem dX0_restAfter_39 : decode cX0_restAfter 39 = .ok (.iload 5, 2) := by decide +kernel
theorem dX0_restAfter_41 : decode cX0_restAfter 41 = .ok (.invokevirtual 92, 3) := by decide +kernel
theorem dX0_restAfter_44 : decode cX0_restAfter 44 = .ok (.istore 6, 2) := by decide +kernel
theorem dX0_restAfter_46 : decode cX0_restAfter 46 = .ok (.iload 6, 2) := by decide +kernel
theorem dX0_restAfter_48 : decode cX0_restAfter 48 = .ok (.iload 4, 2) := by decide +kernel
theorem dX0_restAfter_50 : decode cX0_restAfter 50 = .ok (.if_icmp .le 7, 3) := by decide +kernel
theorem dX0_restAfter_53 : decode cX0_restAfter 53 = .ok (.iload 6, 2) := by decide +kernel
theorem dX0_restAfter_55 : decode cX0_restAfter 55 = .ok (.istore 4, 2) := by decide +kernel
theorem dX0_restAfter_57 : decode cX0_restAfter 57 = .ok (.iinc 5 1, 3) := by decide +kernel
theorem dX0_restAfter_60 : decode cX0_restAfter 60 = .ok (.goto (-31), 3) := by decide +kernel
theorem dX0_restAfter_63 : decode cX0_restAfter 63 = .ok (.iload 4, 2) := by decide +kernel
theorem dX0_restAfter_65 : decode cX0_restAfter 65 = .ok (.ireturn, 1) := by decide +kernel
theorem dX0_withColumn_0 : decode cX0_withColumn 0 = .ok (.iload 4, 2) := by decide +kernel
theorem dX0_withColumn_2 : decode cX0_withColumn 2 = .ok (.iconst 2, 1) := by decide +kernel
theorem dX0_withColumn_3 : decode cX0_withColumn 3 = .ok (.if_icmp .ne 7, 3) := by decide +kernel
theorem dX0_withColumn_6 : decode cX0_withColumn 6 = .ok (.iload_n 1, 1) := by decide +kernel
theorem dX0_withColumn_7 : decode cX0_withColumn 7 = .ok (.goto 6, 3) := by decide +kernel
theorem dX0_withColumn_10 : decode cX0_withColumn 10 = .ok (.iload_n 1, 1) := by decide +kernel
theorem dX0_withColumn_11 : decode cX0_withColumn 11 = .ok (.iconst 1, 1) := by decide +kernel
theorem dX0_withColumn_12 : decode cX0_withColumn 12 = .ok (.iadd, 1) := by decide +kernel
theorem dX0_withColumn_13 : decode cX0_withColumn 13 = .ok (.istore 5, 2) := by decide +kernel
theorem dX0_withColumn_15 : decode cX0_withColumn 15 = .ok (.iload 4, 2) := by decide +kernel
theorem dX0_withColumn_17 : decode cX0_withColumn 17 = .ok (.iconst 1, 1) := by decide +kernel
theorem dX0_withColumn_18 : decode cX0_withColumn 18 = .ok (.if_icmp .ne 7, 3) := by decide +kernel
theorem dX0_withColumn_21 : decode cX0_withColumn 21 = .ok (.iload_n 2, 1) := by decide +kernel
theorem dX0_withColumn_22 : decode cX0_withColumn 22 = .ok (.goto 6, 3) := by decide +kernel
theorem dX0_withColumn_25 : decode cX0_withColumn 25 = .ok (.iload_n 2, 1) := by decide +kernel
theorem dX0_withColumn_26 : decode cX0_withColumn 26 = .ok (.iconst 1, 1) := by decide +kernel
theorem dX0_withColumn_27 : decode cX0_withColumn 27 = .ok (.iadd, 1) := by decide +kernel
theorem dX0_withColumn_28 : decode cX0_withColumn 28 = .ok (.istore 6, 2) := by decide +kernel
theorem dX0_withColumn_30 : decode cX0_withColumn 30 = .ok (.iload 5, 2) := by decide +kernel
theorem dX0_withColumn_32 : decode cX0_withColumn 32 = .ok (.aload_n 0, 1) := by decide +kernel
theorem dX0_withColumn_33 : decode cX0_withColumn 33 = .ok (.getfield 7, 3) := by decide +kernel
theorem dX0_withColumn_36 : decode cX0_withColumn 36 = .ok (.iconst 0, 1) := by decide +kernel
theorem dX0_withColumn_37 : decode cX0_withColumn 37 = .ok (.baload, 1) := by decide +kernel
theorem dX0_withColumn_38 : decode cX0_withColumn 38 = .ok (.if_icmp .gt 14, 3) := by decide +kernel
theorem dX0_withColumn_41 : decode cX0_withColumn 41 = .ok (.iload 6, 2) := by decide +kernel
theorem dX0_withColumn_43 : decode cX0_withColumn 43 = .ok (.aload_n 0, 1) := by decide +kernel
theorem dX0_withColumn_44 : decode cX0_withColumn 44 = .ok (.getfield 7, 3) := by decide +kernel
theorem dX0_withColumn_47 : decode cX0_withColumn 47 = .ok (.iconst 1, 1) := by decide +kernel
theorem dX0_withColumn_48 : decode cX0_withColumn 48 = .ok (.baload, 1) := by decide +kernel
theorem dX0_withColumn_49 : decode cX0_withColumn 49 = .ok (.if_icmp .le 6, 3) := by decide +kernel
theorem dX0_withColumn_52 : decode cX0_withColumn 52 = .ok (.ldc 60, 2) := by decide +kernel
theorem dX0_withColumn_54 : decode cX0_withColumn 54 = .ok (.ireturn, 1) := by decide +kernel
theorem dX0_withColumn_55 : decode cX0_withColumn 55 = .ok (.iload 4, 2) := by decide +kernel
theorem dX0_withColumn_57 : decode cX0_withColumn 57 = .ok (.ifCond .ne 12, 3) := by decide +kernel
theorem dX0_withColumn_60 : decode cX0_withColumn 60 = .ok (.aload_n 0, 1) := by decide +kernel
theorem dX0_withColumn_61 : decode cX0_withColumn 61 = .ok (.iload_n 1, 1) := by decide +kernel
theorem dX0_withColumn_62 : decode cX0_withColumn 62 = .ok (.iload_n 2, 1) := by decide +kernel
theorem dX0_withColumn_63 : decode cX0_withColumn 63 = .ok (.invokevirtual 64, 3) := by decide +kernel
theorem dX0_withColumn_66 : decode cX0_withColumn 66 = .ok (.goto 4, 3) := by decide +kernel
theorem dX0_withColumn_69 : decode cX0_withColumn 69 = .ok (.iconst 0, 1) := by decide +kernel
theorem dX0_withColumn_70 : decode cX0_withColumn 70 = .ok (.istore 7, 2) := by decide +kernel
theorem dX0_withColumn_72 : decode cX0_withColumn 72 = .ok (.iload 7, 2) := by decide +kernel
theorem dX0_withColumn_74 : decode cX0_withColumn 74 = .ok (.aload_n 0, 1) := by decide +kernel
theorem dX0_withColumn_75 : decode cX0_withColumn 75 = .ok (.iload_n 3, 1) := by decide +kernel
theorem dX0_withColumn_76 : decode cX0_withColumn 76 = .ok (.iload 4, 2) := by decide +kernel
theorem dX0_withColumn_78 : decode cX0_withColumn 78 = .ok (.invokevirtual 85, 3) := by decide +kernel
theorem dX0_withColumn_81 : decode cX0_withColumn 81 = .ok (.isub, 1) := by decide +kernel
theorem dX0_withColumn_82 : decode cX0_withColumn 82 = .ok (.aload_n 0, 1) := by decide +kernel
theorem dX0_withColumn_83 : decode cX0_withColumn 83 = .ok (.getfield 23, 3) := by decide +kernel
theorem dX0_withColumn_86 : decode cX0_withColumn 86 = .ok (.bipush 121, 2) := by decide +kernel
theorem dX0_withColumn_88 : decode cX0_withColumn 88 = .ok (.iload 4, 2) := by decide +kernel
theorem dX0_withColumn_90 : decode cX0_withColumn 90 = .ok (.imul, 1) := by decide +kernel
theorem dX0_withColumn_91 : decode cX0_withColumn 91 = .ok (.bipush 11, 2) := by decide +kernel
theorem dX0_withColumn_93 : decode cX0_withColumn 93 = .ok (.iload 5, 2) := by decide +kernel
theorem dX0_withColumn_95 : decode cX0_withColumn 95 = .ok (.imul, 1) := by decide +kernel
theorem dX0_withColumn_96 : decode cX0_withColumn 96 = .ok (.iadd, 1) := by decide +kernel
theorem dX0_withColumn_97 : decode cX0_withColumn 97 = .ok (.iload 6, 2) := by decide +kernel
theorem dX0_withColumn_99 : decode cX0_withColumn 99 = .ok (.iadd, 1) := by decide +kernel
theorem dX0_withColumn_100 : decode cX0_withColumn 100 = .ok (.iaload, 1) := by decide +kernel
theorem dX0_withColumn_101 : decode cX0_withColumn 101 = .ok (.iadd, 1) := by decide +kernel
theorem dX0_withColumn_102 : decode cX0_withColumn 102 = .ok (.ireturn, 1) := by decide +kernel
theorem dX0_columns_0 : decode cX0_columns 0 = .ok (.aload_n 0, 1) := by decide +kernel
theorem dX0_columns_1 : decode cX0_columns 1 = .ok (.invokevirtual 54, 3) := by decide +kernel
theorem dX0_columns_4 : decode cX0_columns 4 = .ok (.aload_n 0, 1) := by decide +kernel
theorem dX0_columns_5 : decode cX0_columns 5 = .ok (.getfield 57, 3) := by decide +kernel
theorem dX0_columns_8 : decode cX0_columns 8 = .ok (.ireturn, 1) := by decide +kernel
theorem dX0_local_0 : decode cX0_local 0 = .ok (.aload_n 0, 1) := by decide +kernel
theorem dX0_local_1 : decode cX0_local 1 = .ok (.iconst 3, 1) := by decide +kernel
theorem dX0_local_2 : decode cX0_local 2 = .ok (.invokevirtual 42, 3) := by decide +kernel
theorem dX0_local_5 : decode cX0_local 5 = .ok (.iconst 0, 1) := by decide +kernel
theorem dX0_local_6 : decode cX0_local 6 = .ok (.istore_n 1, 1) := by decide +kernel
theorem dX0_local_7 : decode cX0_local 7 = .ok (.iconst 0, 1) := by decide +kernel
theorem dX0_local_8 : decode cX0_local 8 = .ok (.istore_n 2, 1) := by decide +kernel
theorem dX0_local_9 : decode cX0_local 9 = .ok (.iload_n 2, 1) := by decide +kernel
theorem dX0_local_10 : decode cX0_local 10 = .ok (.aload_n 0, 1) := by decide +kernel
theorem dX0_local_11 : decode cX0_local 11 = .ok (.getfield 7, 3) := by decide +kernel
theorem dX0_local_14 : decode cX0_local 14 = .ok (.iconst 0, 1) := by decide +kernel
theorem dX0_local_15 : decode cX0_local 15 = .ok (.baload, 1) := by decide +kernel
theorem dX0_local_16 : decode cX0_local 16 = .ok (.if_icmp .gt 44, 3) := by decide +kernel
theorem dX0_local_19 : decode cX0_local 19 = .ok (.iconst 0, 1) := by decide +kernel
theorem dX0_local_20 : decode cX0_local 20 = .ok (.istore_n 3, 1) := by decide +kernel
theorem dX0_local_21 : decode cX0_local 21 = .ok (.iload_n 3, 1) := by decide +kernel
theorem dX0_local_22 : decode cX0_local 22 = .ok (.aload_n 0, 1) := by decide +kernel
theorem dX0_local_23 : decode cX0_local 23 = .ok (.getfield 7, 3) := by decide +kernel
theorem dX0_local_26 : decode cX0_local 26 = .ok (.iconst 1, 1) := by decide +kernel
theorem dX0_local_27 : decode cX0_local 27 = .ok (.baload, 1) := by decide +kernel
theorem dX0_local_28 : decode cX0_local 28 = .ok (.if_icmp .gt 26, 3) := by decide +kernel
theorem dX0_local_31 : decode cX0_local 31 = .ok (.aload_n 0, 1) := by decide +kernel
theorem dX0_local_32 : decode cX0_local 32 = .ok (.iload_n 2, 1) := by decide +kernel
theorem dX0_local_33 : decode cX0_local 33 = .ok (.iload_n 3, 1) := by decide +kernel
theorem dX0_local_34 : decode cX0_local 34 = .ok (.invokevirtual 46, 3) := by decide +kernel
theorem dX0_local_37 : decode cX0_local 37 = .ok (.istore 4, 2) := by decide +kernel
theorem dX0_local_39 : decode cX0_local 39 = .ok (.iload 4, 2) := by decide +kernel
theorem dX0_local_41 : decode cX0_local 41 = .ok (.iload_n 1, 1) := by decide +kernel
theorem dX0_local_42 : decode cX0_local 42 = .ok (.if_icmp .le 6, 3) := by decide +kernel
theorem dX0_local_45 : decode cX0_local 45 = .ok (.iload 4, 2) := by decide +kernel
theorem dX0_local_47 : decode cX0_local 47 = .ok (.istore_n 1, 1) := by decide +kernel
theorem dX0_local_48 : decode cX0_local 48 = .ok (.iinc 3 1, 3) := by decide +kernel
theorem dX0_local_51 : decode cX0_local 51 = .ok (.goto (-30), 3) := by decide +kernel
theorem dX0_local_54 : decode cX0_local 54 = .ok (.iinc 2 1, 3) := by decide +kernel
theorem dX0_local_57 : decode cX0_local 57 = .ok (.goto (-48), 3) := by decide +kernel
theorem dX0_local_60 : decode cX0_local 60 = .ok (.iload_n 1, 1) := by decide +kernel
theorem dX0_local_61 : decode cX0_local 61 = .ok (.ireturn, 1) := by decide +kernel
theorem dX0_fitted_0 : decode cX0_fitted 0 = .ok (.aload_n 0, 1) := by decide +kernel
theorem dX0_fitted_1 : decode cX0_fitted 1 = .ok (.iconst 1, 1) := by decide +kernel
theorem dX0_fitted_2 : decode cX0_fitted 2 = .ok (.invokevirtual 42, 3) := by decide +kernel
theorem dX0_fitted_5 : decode cX0_fitted 5 = .ok (.ldc 60, 2) := by decide +kernel
theorem dX0_fitted_7 : decode cX0_fitted 7 = .ok (.istore_n 1, 1) := by decide +kernel
theorem dX0_fitted_8 : decode cX0_fitted 8 = .ok (.iconst 0, 1) := by decide +kernel
theorem dX0_fitted_9 : decode cX0_fitted 9 = .ok (.istore_n 2, 1) := by decide +kernel
theorem dX0_fitted_10 : decode cX0_fitted 10 = .ok (.iload_n 2, 1) := by decide +kernel
theorem dX0_fitted_11 : decode cX0_fitted 11 = .ok (.aload_n 0, 1) := by decide +kernel
theorem dX0_fitted_12 : decode cX0_fitted 12 = .ok (.getfield 7, 3) := by decide +kernel
theorem dX0_fitted_15 : decode cX0_fitted 15 = .ok (.iconst 1, 1) := by decide +kernel
theorem dX0_fitted_16 : decode cX0_fitted 16 = .ok (.baload, 1) := by decide +kernel
theorem dX0_fitted_17 : decode cX0_fitted 17 = .ok (.if_icmp .gt 28, 3) := by decide +kernel
theorem dX0_fitted_20 : decode cX0_fitted 20 = .ok (.aload_n 0, 1) := by decide +kernel
theorem dX0_fitted_21 : decode cX0_fitted 21 = .ok (.aload_n 0, 1) := by decide +kernel
theorem dX0_fitted_22 : decode cX0_fitted 22 = .ok (.getfield 7, 3) := by decide +kernel
theorem dX0_fitted_25 : decode cX0_fitted 25 = .ok (.iconst 0, 1) := by decide +kernel
theorem dX0_fitted_26 : decode cX0_fitted 26 = .ok (.baload, 1) := by decide +kernel
theorem dX0_fitted_27 : decode cX0_fitted 27 = .ok (.iload_n 2, 1) := by decide +kernel
theorem dX0_fitted_28 : decode cX0_fitted 28 = .ok (.invokevirtual 46, 3) := by decide +kernel
theorem dX0_fitted_31 : decode cX0_fitted 31 = .ok (.istore_n 3, 1) := by decide +kernel
theorem dX0_fitted_32 : decode cX0_fitted 32 = .ok (.iload_n 3, 1) := by decide +kernel
theorem dX0_fitted_33 : decode cX0_fitted 33 = .ok (.iload_n 1, 1) := by decide +kernel
theorem dX0_fitted_34 : decode cX0_fitted 34 = .ok (.if_icmp .le 5, 3) := by decide +kernel
theorem dX0_fitted_37 : decode cX0_fitted 37 = .ok (.iload_n 3, 1) := by decide +kernel
theorem dX0_fitted_38 : decode cX0_fitted 38 = .ok (.istore_n 1, 1) := by decide +kernel
theorem dX0_fitted_39 : decode cX0_fitted 39 = .ok (.iinc 2 1, 3) := by decide +kernel
theorem dX0_fitted_42 : decode cX0_fitted 42 = .ok (.goto (-32), 3) := by decide +kernel
theorem dX0_fitted_45 : decode cX0_fitted 45 = .ok (.iload_n 1, 1) := by decide +kernel
theorem dX0_fitted_46 : decode cX0_fitted 46 = .ok (.ireturn, 1) := by decide +kernel
theorem dX0_overlap_0 : decode cX0_overlap 0 = .ok (.aload_n 0, 1) := by decide +kernel
theorem dX0_overlap_1 : decode cX0_overlap 1 = .ok (.iconst 2, 1) := by decide +kernel
theorem dX0_overlap_2 : decode cX0_overlap 2 = .ok (.invokevirtual 42, 3) := by decide +kernel
theorem dX0_overlap_5 : decode cX0_overlap 5 = .ok (.ldc 60, 2) := by decide +kernel
theorem dX0_overlap_7 : decode cX0_overlap 7 = .ok (.istore_n 1, 1) := by decide +kernel
theorem dX0_overlap_8 : decode cX0_overlap 8 = .ok (.iconst 0, 1) := by decide +kernel
theorem dX0_overlap_9 : decode cX0_overlap 9 = .ok (.istore_n 2, 1) := by decide +kernel
theorem dX0_overlap_10 : decode cX0_overlap 10 = .ok (.iload_n 2, 1) := by decide +kernel
theorem dX0_overlap_11 : decode cX0_overlap 11 = .ok (.aload_n 0, 1) := by decide +kernel
theorem dX0_overlap_12 : decode cX0_overlap 12 = .ok (.getfield 7, 3) := by decide +kernel
theorem dX0_overlap_15 : decode cX0_overlap 15 = .ok (.iconst 1, 1) := by decide +kernel
theorem dX0_overlap_16 : decode cX0_overlap 16 = .ok (.baload, 1) := by decide +kernel
theorem dX0_overlap_17 : decode cX0_overlap 17 = .ok (.if_icmp .gt 28, 3) := by decide +kernel
theorem dX0_overlap_20 : decode cX0_overlap 20 = .ok (.aload_n 0, 1) := by decide +kernel
theorem dX0_overlap_21 : decode cX0_overlap 21 = .ok (.aload_n 0, 1) := by decide +kernel
theorem dX0_overlap_22 : decode cX0_overlap 22 = .ok (.getfield 7, 3) := by decide +kernel
theorem dX0_overlap_25 : decode cX0_overlap 25 = .ok (.iconst 0, 1) := by decide +kernel
theorem dX0_overlap_26 : decode cX0_overlap 26 = .ok (.baload, 1) := by decide +kernel
theorem dX0_overlap_27 : decode cX0_overlap 27 = .ok (.iload_n 2, 1) := by decide +kernel
theorem dX0_overlap_28 : decode cX0_overlap 28 = .ok (.invokevirtual 46, 3) := by decide +kernel
theorem dX0_overlap_31 : decode cX0_overlap 31 = .ok (.istore_n 3, 1) := by decide +kernel
theorem dX0_overlap_32 : decode cX0_overlap 32 = .ok (.iload_n 3, 1) := by decide +kernel
theorem dX0_overlap_33 : decode cX0_overlap 33 = .ok (.iload_n 1, 1) := by decide +kernel
theorem dX0_overlap_34 : decode cX0_overlap 34 = .ok (.if_icmp .le 5, 3) := by decide +kernel
theorem dX0_overlap_37 : decode cX0_overlap 37 = .ok (.iload_n 3, 1) := by decide +kernel
theorem dX0_overlap_38 : decode cX0_overlap 38 = .ok (.istore_n 1, 1) := by decide +kernel
theorem dX0_overlap_39 : decode cX0_overlap 39 = .ok (.iinc 2 1, 3) := by decide +kernel
theorem dX0_overlap_42 : decode cX0_overlap 42 = .ok (.goto (-32), 3) := by decide +kernel
theorem dX0_overlap_45 : decode cX0_overlap 45 = .ok (.iload_n 1, 1) := by decide +kernel
theorem dX0_overlap_46 : decode cX0_overlap 46 = .ok (.ireturn, 1) := by decide +kernel
theorem dX0_paired_0 : decode cX0_paired 0 = .ok (.iload_n 1, 1) := by decide +kernel
theorem dX0_paired_1 : decode cX0_paired 1 = .ok (.ifCond .lt 27, 3) := by decide +kernel
theorem dX0_paired_4 : decode cX0_paired 4 = .ok (.iload_n 1, 1) := by decide +kernel
theorem dX0_paired_5 : decode cX0_paired 5 = .ok (.aload_n 0, 1) := by decide +kernel
theorem dX0_paired_6 : decode cX0_paired 6 = .ok (.getfield 7, 3) := by decide +kernel
theorem dX0_paired_9 : decode cX0_paired 9 = .ok (.iconst 0, 1) := by decide +kernel
theorem dX0_paired_10 : decode cX0_paired 10 = .ok (.baload, 1) := by decide +kernel
theorem dX0_paired_11 : decode cX0_paired 11 = .ok (.if_icmp .ge 17, 3) := by decide +kernel
theorem dX0_paired_14 : decode cX0_paired 14 = .ok (.iload_n 2, 1) := by decide +kernel
theorem dX0_paired_15 : decode cX0_paired 15 = .ok (.ifCond .lt 13, 3) := by decide +kernel
theorem dX0_paired_18 : decode cX0_paired 18 = .ok (.iload_n 2, 1) := by decide +kernel
theorem dX0_paired_19 : decode cX0_paired 19 = .ok (.aload_n 0, 1) := by decide +kernel
theorem dX0_paired_20 : decode cX0_paired 20 = .ok (.getfield 7, 3) := by decide +kernel
theorem dX0_paired_23 : decode cX0_paired 23 = .ok (.iconst 1, 1) := by decide +kernel
theorem dX0_paired_24 : decode cX0_paired 24 = .ok (.baload, 1) := by decide +kernel
theorem dX0_paired_25 : decode cX0_paired 25 = .ok (.if_icmp .lt 5, 3) := by decide +kernel
theorem dX0_paired_28 : decode cX0_paired 28 = .ok (.iconst 0, 1) := by decide +kernel
theorem dX0_paired_29 : decode cX0_paired 29 = .ok (.ireturn, 1) := by decide +kernel
theorem dX0_paired_30 : decode cX0_paired 30 = .ok (.aload_n 0, 1) := by decide +kernel
theorem dX0_paired_31 : decode cX0_paired 31 = .ok (.invokevirtual 50, 3) := by decide +kernel
theorem dX0_paired_34 : decode cX0_paired 34 = .ok (.istore_n 3, 1) := by decide +kernel
theorem dX0_paired_35 : decode cX0_paired 35 = .ok (.aload_n 0, 1) := by decide +kernel
theorem dX0_paired_36 : decode cX0_paired 36 = .ok (.invokevirtual 61, 3) := by decide +kernel
theorem dX0_paired_39 : decode cX0_paired 39 = .ok (.aload_n 0, 1) := by decide +kernel
theorem dX0_paired_40 : decode cX0_paired 40 = .ok (.iload_n 1, 1) := by decide +kernel
theorem dX0_paired_41 : decode cX0_paired 41 = .ok (.iload_n 2, 1) := by decide +kernel
theorem dX0_paired_42 : decode cX0_paired 42 = .ok (.invokevirtual 46, 3) := by decide +kernel
theorem dX0_paired_45 : decode cX0_paired 45 = .ok (.istore 4, 2) := by decide +kernel
theorem dX0_paired_47 : decode cX0_paired 47 = .ok (.iload 4, 2) := by decide +kernel
theorem dX0_paired_49 : decode cX0_paired 49 = .ok (.aload_n 0, 1) := by decide +kernel
theorem dX0_paired_50 : decode cX0_paired 50 = .ok (.iload_n 1, 1) := by decide +kernel
theorem dX0_paired_51 : decode cX0_paired 51 = .ok (.iload_n 2, 1) := by decide +kernel
theorem dX0_paired_52 : decode cX0_paired 52 = .ok (.invokevirtual 64, 3) := by decide +kernel
theorem dX0_paired_55 : decode cX0_paired 55 = .ok (.iadd, 1) := by decide +kernel
theorem dX0_paired_56 : decode cX0_paired 56 = .ok (.aload_n 0, 1) := by decide +kernel
theorem dX0_paired_57 : decode cX0_paired 57 = .ok (.getfield 23, 3) := by decide +kernel
theorem dX0_paired_60 : decode cX0_paired 60 = .ok (.bipush 11, 2) := by decide +kernel
theorem dX0_paired_62 : decode cX0_paired 62 = .ok (.iload_n 1, 1) := by decide +kernel
theorem dX0_paired_63 : decode cX0_paired 63 = .ok (.iconst 1, 1) := by decide +kernel
theorem dX0_paired_64 : decode cX0_paired 64 = .ok (.iadd, 1) := by decide +kernel
theorem dX0_paired_65 : decode cX0_paired 65 = .ok (.imul, 1) := by decide +kernel
theorem dX0_paired_66 : decode cX0_paired 66 = .ok (.iload_n 2, 1) := by decide +kernel
theorem dX0_paired_67 : decode cX0_paired 67 = .ok (.iadd, 1) := by decide +kernel
theorem dX0_paired_68 : decode cX0_paired 68 = .ok (.iconst 1, 1) := by decide +kernel
theorem dX0_paired_69 : decode cX0_paired 69 = .ok (.iadd, 1) := by decide +kernel
theorem dX0_paired_70 : decode cX0_paired 70 = .ok (.iaload, 1) := by decide +kernel
theorem dX0_paired_71 : decode cX0_paired 71 = .ok (.iadd, 1) := by decide +kernel
theorem dX0_paired_72 : decode cX0_paired 72 = .ok (.iload_n 3, 1) := by decide +kernel
theorem dX0_paired_73 : decode cX0_paired 73 = .ok (.if_icmp .ne 7, 3) := by decide +kernel
theorem dX0_paired_76 : decode cX0_paired 76 = .ok (.iconst 1, 1) := by decide +kernel
theorem dX0_paired_77 : decode cX0_paired 77 = .ok (.goto 4, 3) := by decide +kernel
theorem dX0_paired_80 : decode cX0_paired 80 = .ok (.iconst 0, 1) := by decide +kernel
theorem dX0_paired_81 : decode cX0_paired 81 = .ok (.ireturn, 1) := by decide +kernel
end
section
set_option maxRecDepth 100000
theorem dX1_init_0 : decode cX1_init 0 = .ok (.aload_n 0, 1) := by decide +kernel
theorem dX1_init_1 : decode cX1_init 1 = .ok (.invokespecial 1, 3) := by decide +kernel
theorem dX1_init_4 : decode cX1_init 4 = .ok (.aload_n 0, 1) := by decide +kernel
theorem dX1_init_5 : decode cX1_init 5 = .ok (.bipush 20, 2) := by decide +kernel
theorem dX1_init_7 : decode cX1_init 7 = .ok (.newarray .int, 2) := by decide +kernel
theorem dX1_init_9 : decode cX1_init 9 = .ok (.putfield 7, 3) := by decide +kernel
theorem dX1_init_12 : decode cX1_init 12 = .ok (.aload_n 0, 1) := by decide +kernel
theorem dX1_init_13 : decode cX1_init 13 = .ok (.iconst 2, 1) := by decide +kernel
theorem dX1_init_14 : decode cX1_init 14 = .ok (.newarray .int, 2) := by decide +kernel
theorem dX1_init_16 : decode cX1_init 16 = .ok (.putfield 13, 3) := by decide +kernel
theorem dX1_init_19 : decode cX1_init 19 = .ok (.aload_n 0, 1) := by decide +kernel
theorem dX1_init_20 : decode cX1_init 20 = .ok (.iconst 2, 1) := by decide +kernel
theorem dX1_init_21 : decode cX1_init 21 = .ok (.putfield 16, 3) := by decide +kernel
theorem dX1_init_24 : decode cX1_init 24 = .ok (.aload_n 0, 1) := by decide +kernel
theorem dX1_init_25 : decode cX1_init 25 = .ok (.iconst (-1), 1) := by decide +kernel
theorem dX1_init_26 : decode cX1_init 26 = .ok (.putfield 20, 3) := by decide +kernel
theorem dX1_init_29 : decode cX1_init 29 = .ok (.aload_n 0, 1) := by decide +kernel
theorem dX1_init_30 : decode cX1_init 30 = .ok (.iconst 2, 1) := by decide +kernel
theorem dX1_init_31 : decode cX1_init 31 = .ok (.putfield 23, 3) := by decide +kernel
theorem dX1_init_34 : decode cX1_init 34 = .ok (.aload_n 0, 1) := by decide +kernel
theorem dX1_init_35 : decode cX1_init 35 = .ok (.iconst 1, 1) := by decide +kernel
theorem dX1_init_36 : decode cX1_init 36 = .ok (.putfield 26, 3) := by decide +kernel
theorem dX1_init_39 : decode cX1_init 39 = .ok (.aload_n 0, 1) := by decide +kernel
theorem dX1_init_40 : decode cX1_init 40 = .ok (.sipush 363, 3) := by decide +kernel
theorem dX1_init_43 : decode cX1_init 43 = .ok (.newarray .int, 2) := by decide +kernel
theorem dX1_init_45 : decode cX1_init 45 = .ok (.putfield 29, 3) := by decide +kernel
theorem dX1_init_48 : decode cX1_init 48 = .ok (.aload_n 0, 1) := by decide +kernel
theorem dX1_init_49 : decode cX1_init 49 = .ok (.sipush 363, 3) := by decide +kernel
theorem dX1_init_52 : decode cX1_init 52 = .ok (.newarray .int, 2) := by decide +kernel
theorem dX1_init_54 : decode cX1_init 54 = .ok (.putfield 32, 3) := by decide +kernel
theorem dX1_init_57 : decode cX1_init 57 = .ok (.return_, 1) := by decide +kernel
theorem dX1_type_0 : decode cX1_type 0 = .ok (.iload_n 1, 1) := by decide +kernel
theorem dX1_type_1 : decode cX1_type 1 = .ok (.ifCond .lt 17, 3) := by decide +kernel
theorem dX1_type_4 : decode cX1_type 4 = .ok (.iload_n 1, 1) := by decide +kernel
theorem dX1_type_5 : decode cX1_type 5 = .ok (.iconst 1, 1) := by decide +kernel
theorem dX1_type_6 : decode cX1_type 6 = .ok (.if_icmp .gt 12, 3) := by decide +kernel
theorem dX1_type_9 : decode cX1_type 9 = .ok (.iload_n 2, 1) := by decide +kernel
theorem dX1_type_10 : decode cX1_type 10 = .ok (.ifCond .lt 8, 3) := by decide +kernel
theorem dX1_type_13 : decode cX1_type 13 = .ok (.iload_n 2, 1) := by decide +kernel
theorem dX1_type_14 : decode cX1_type 14 = .ok (.iconst 3, 1) := by decide +kernel
theorem dX1_type_15 : decode cX1_type 15 = .ok (.if_icmp .le 7, 3) := by decide +kernel
theorem dX1_type_18 : decode cX1_type 18 = .ok (.sipush (-1000), 3) := by decide +kernel
theorem dX1_type_21 : decode cX1_type 21 = .ok (.ireturn, 1) := by decide +kernel
theorem dX1_type_22 : decode cX1_type 22 = .ok (.aload_n 0, 1) := by decide +kernel
theorem dX1_type_23 : decode cX1_type 23 = .ok (.getfield 13, 3) := by decide +kernel
theorem dX1_type_26 : decode cX1_type 26 = .ok (.iload_n 1, 1) := by decide +kernel
theorem dX1_type_27 : decode cX1_type 27 = .ok (.iaload, 1) := by decide +kernel
theorem dX1_type_28 : decode cX1_type 28 = .ok (.bipush 10, 2) := by decide +kernel
theorem dX1_type_30 : decode cX1_type 30 = .ok (.if_icmp .ne 7, 3) := by decide +kernel
theorem dX1_type_33 : decode cX1_type 33 = .ok (.sipush (-1001), 3) := by decide +kernel
theorem dX1_type_36 : decode cX1_type 36 = .ok (.ireturn, 1) := by decide +kernel
theorem dX1_type_37 : decode cX1_type 37 = .ok (.aload_n 0, 1) := by decide +kernel
theorem dX1_type_38 : decode cX1_type 38 = .ok (.getfield 7, 3) := by decide +kernel
theorem dX1_type_41 : decode cX1_type 41 = .ok (.iload_n 1, 1) := by decide +kernel
theorem dX1_type_42 : decode cX1_type 42 = .ok (.bipush 10, 2) := by decide +kernel
theorem dX1_type_44 : decode cX1_type 44 = .ok (.imul, 1) := by decide +kernel
theorem dX1_type_45 : decode cX1_type 45 = .ok (.aload_n 0, 1) := by decide +kernel
theorem dX1_type_46 : decode cX1_type 46 = .ok (.getfield 13, 3) := by decide +kernel
theorem dX1_type_49 : decode cX1_type 49 = .ok (.iload_n 1, 1) := by decide +kernel
theorem dX1_type_50 : decode cX1_type 50 = .ok (.iaload, 1) := by decide +kernel
theorem dX1_type_51 : decode cX1_type 51 = .ok (.iadd, 1) := by decide +kernel
theorem dX1_type_52 : decode cX1_type 52 = .ok (.iload_n 2, 1) := by decide +kernel
theorem dX1_type_53 : decode cX1_type 53 = .ok (.iastore, 1) := by decide +kernel
theorem dX1_type_54 : decode cX1_type 54 = .ok (.aload_n 0, 1) := by decide +kernel
theorem dX1_type_55 : decode cX1_type 55 = .ok (.getfield 13, 3) := by decide +kernel
theorem dX1_type_58 : decode cX1_type 58 = .ok (.iload_n 1, 1) := by decide +kernel
theorem dX1_type_59 : decode cX1_type 59 = .ok (.dup2, 1) := by decide +kernel
theorem dX1_type_60 : decode cX1_type 60 = .ok (.iaload, 1) := by decide +kernel
theorem dX1_type_61 : decode cX1_type 61 = .ok (.iconst 1, 1) := by decide +kernel
theorem dX1_type_62 : decode cX1_type 62 = .ok (.iadd, 1) := by decide +kernel
theorem dX1_type_63 : decode cX1_type 63 = .ok (.iastore, 1) := by decide +kernel
theorem dX1_type_64 : decode cX1_type 64 = .ok (.aload_n 0, 1) := by decide +kernel
theorem dX1_type_65 : decode cX1_type 65 = .ok (.getfield 13, 3) := by decide +kernel
theorem dX1_type_68 : decode cX1_type 68 = .ok (.iload_n 1, 1) := by decide +kernel
theorem dX1_type_69 : decode cX1_type 69 = .ok (.iaload, 1) := by decide +kernel
theorem dX1_type_70 : decode cX1_type 70 = .ok (.ireturn, 1) := by decide +kernel
theorem dX1_wipe_0 : decode cX1_wipe 0 = .ok (.iload_n 1, 1) := by decide +kernel
theorem dX1_wipe_1 : decode cX1_wipe 1 = .ok (.ifCond .lt 8, 3) := by decide +kernel
theorem dX1_wipe_4 : decode cX1_wipe 4 = .ok (.iload_n 1, 1) := by decide +kernel
theorem dX1_wipe_5 : decode cX1_wipe 5 = .ok (.iconst 1, 1) := by decide +kernel
theorem dX1_wipe_6 : decode cX1_wipe 6 = .ok (.if_icmp .le 7, 3) := by decide +kernel
theorem dX1_wipe_9 : decode cX1_wipe 9 = .ok (.sipush (-1000), 3) := by decide +kernel
theorem dX1_wipe_12 : decode cX1_wipe 12 = .ok (.ireturn, 1) := by decide +kernel
theorem dX1_wipe_13 : decode cX1_wipe 13 = .ok (.aload_n 0, 1) := by decide +kernel
theorem dX1_wipe_14 : decode cX1_wipe 14 = .ok (.getfield 13, 3) := by decide +kernel
theorem dX1_wipe_17 : decode cX1_wipe 17 = .ok (.iload_n 1, 1) := by decide +kernel
theorem dX1_wipe_18 : decode cX1_wipe 18 = .ok (.iaload, 1) := by decide +kernel
theorem dX1_wipe_19 : decode cX1_wipe 19 = .ok (.istore_n 2, 1) := by decide +kernel
theorem dX1_wipe_20 : decode cX1_wipe 20 = .ok (.aload_n 0, 1) := by decide +kernel
theorem dX1_wipe_21 : decode cX1_wipe 21 = .ok (.getfield 13, 3) := by decide +kernel
theorem dX1_wipe_24 : decode cX1_wipe 24 = .ok (.iload_n 1, 1) := by decide +kernel
theorem dX1_wipe_25 : decode cX1_wipe 25 = .ok (.iconst 0, 1) := by decide +kernel
theorem dX1_wipe_26 : decode cX1_wipe 26 = .ok (.iastore, 1) := by decide +kernel
theorem dX1_wipe_27 : decode cX1_wipe 27 = .ok (.iload_n 2, 1) := by decide +kernel
theorem dX1_wipe_28 : decode cX1_wipe 28 = .ok (.ireturn, 1) := by decide +kernel
theorem dX1_rules_0 : decode cX1_rules 0 = .ok (.iload_n 1, 1) := by decide +kernel
theorem dX1_rules_1 : decode cX1_rules 1 = .ok (.bipush (-9), 2) := by decide +kernel
theorem dX1_rules_3 : decode cX1_rules 3 = .ok (.if_icmp .lt 21, 3) := by decide +kernel
theorem dX1_rules_6 : decode cX1_rules 6 = .ok (.iload_n 1, 1) := by decide +kernel
theorem dX1_rules_7 : decode cX1_rules 7 = .ok (.bipush 9, 2) := by decide +kernel
theorem dX1_rules_9 : decode cX1_rules 9 = .ok (.if_icmp .gt 15, 3) := by decide +kernel
theorem dX1_rules_12 : decode cX1_rules 12 = .ok (.iload_n 2, 1) := by decide +kernel
theorem dX1_rules_13 : decode cX1_rules 13 = .ok (.bipush (-9), 2) := by decide +kernel
theorem dX1_rules_15 : decode cX1_rules 15 = .ok (.if_icmp .lt 9, 3) := by decide +kernel
theorem dX1_rules_18 : decode cX1_rules 18 = .ok (.iload_n 2, 1) := by decide +kernel
theorem dX1_rules_19 : decode cX1_rules 19 = .ok (.bipush 9, 2) := by decide +kernel
theorem dX1_rules_21 : decode cX1_rules 21 = .ok (.if_icmp .le 5, 3) := by decide +kernel
theorem dX1_rules_24 : decode cX1_rules 24 = .ok (.iconst 0, 1) := by decide +kernel
theorem dX1_rules_25 : decode cX1_rules 25 = .ok (.ireturn, 1) := by decide +kernel
theorem dX1_rules_26 : decode cX1_rules 26 = .ok (.iload_n 3, 1) := by decide +kernel
theorem dX1_rules_27 : decode cX1_rules 27 = .ok (.ifCond .lt 21, 3) := by decide +kernel
theorem dX1_rules_30 : decode cX1_rules 30 = .ok (.iload_n 3, 1) := by decide +kernel
theorem dX1_rules_31 : decode cX1_rules 31 = .ok (.bipush 9, 2) := by decide +kernel
theorem dX1_rules_33 : decode cX1_rules 33 = .ok (.if_icmp .gt 15, 3) := by decide +kernel
theorem dX1_rules_36 : decode cX1_rules 36 = .ok (.iload 4, 2) := by decide +kernel
theorem dX1_rules_38 : decode cX1_rules 38 = .ok (.ifCond .lt 10, 3) := by decide +kernel
theorem dX1_rules_41 : decode cX1_rules 41 = .ok (.iload 4, 2) := by decide +kernel
theorem dX1_rules_43 : decode cX1_rules 43 = .ok (.bipush 9, 2) := by decide +kernel
theorem dX1_rules_45 : decode cX1_rules 45 = .ok (.if_icmp .le 5, 3) := by decide +kernel
theorem dX1_rules_48 : decode cX1_rules 48 = .ok (.iconst 0, 1) := by decide +kernel
theorem dX1_rules_49 : decode cX1_rules 49 = .ok (.ireturn, 1) := by decide +kernel
theorem dX1_rules_50 : decode cX1_rules 50 = .ok (.aload_n 0, 1) := by decide +kernel
theorem dX1_rules_51 : decode cX1_rules 51 = .ok (.iload_n 1, 1) := by decide +kernel
theorem dX1_rules_52 : decode cX1_rules 52 = .ok (.putfield 16, 3) := by decide +kernel
theorem dX1_rules_55 : decode cX1_rules 55 = .ok (.aload_n 0, 1) := by decide +kernel
theorem dX1_rules_56 : decode cX1_rules 56 = .ok (.iload_n 2, 1) := by decide +kernel
theorem dX1_rules_57 : decode cX1_rules 57 = .ok (.putfield 20, 3) := by decide +kernel
theorem dX1_rules_60 : decode cX1_rules 60 = .ok (.aload_n 0, 1) := by decide +kernel
theorem dX1_rules_61 : decode cX1_rules 61 = .ok (.iload_n 3, 1) := by decide +kernel
theorem dX1_rules_62 : decode cX1_rules 62 = .ok (.putfield 23, 3) := by decide +kernel
theorem dX1_rules_65 : decode cX1_rules 65 = .ok (.aload_n 0, 1) := by decide +kernel
theorem dX1_rules_66 : decode cX1_rules 66 = .ok (.iload 4, 2) := by decide +kernel
theorem dX1_rules_68 : decode cX1_rules 68 = .ok (.putfield 26, 3) := by decide +kernel
theorem dX1_rules_71 : decode cX1_rules 71 = .ok (.iconst 1, 1) := by decide +kernel
theorem dX1_rules_72 : decode cX1_rules 72 = .ok (.ireturn, 1) := by decide +kernel
theorem dX1_best_0 : decode cX1_best 0 = .ok (.aload_n 0, 1) := by decide +kernel
theorem dX1_best_1 : decode cX1_best 1 = .ok (.aload_n 0, 1) := by decide +kernel
theorem dX1_best_2 : decode cX1_best 2 = .ok (.getfield 13, 3) := by decide +kernel
theorem dX1_best_5 : decode cX1_best 5 = .ok (.iconst 0, 1) := by decide +kernel
theorem dX1_best_6 : decode cX1_best 6 = .ok (.iaload, 1) := by decide +kernel
theorem dX1_best_7 : decode cX1_best 7 = .ok (.aload_n 0, 1) := by decide +kernel
theorem dX1_best_8 : decode cX1_best 8 = .ok (.getfield 13, 3) := by decide +kernel
theorem dX1_best_11 : decode cX1_best 11 = .ok (.iconst 1, 1) := by decide +kernel
theorem dX1_best_12 : decode cX1_best 12 = .ok (.iaload, 1) := by decide +kernel
theorem dX1_best_13 : decode cX1_best 13 = .ok (.iconst 0, 1) := by decide +kernel
theorem dX1_best_14 : decode cX1_best 14 = .ok (.invokevirtual 49, 3) := by decide +kernel
theorem dX1_best_17 : decode cX1_best 17 = .ok (.aload_n 0, 1) := by decide +kernel
theorem dX1_best_18 : decode cX1_best 18 = .ok (.getfield 29, 3) := by decide +kernel
theorem dX1_best_21 : decode cX1_best 21 = .ok (.iconst 0, 1) := by decide +kernel
theorem dX1_best_22 : decode cX1_best 22 = .ok (.iaload, 1) := by decide +kernel
theorem dX1_best_23 : decode cX1_best 23 = .ok (.ireturn, 1) := by decide +kernel
theorem dX1_work_0 : decode cX1_work 0 = .ok (.iload_n 1, 1) := by decide +kernel
theorem dX1_work_1 : decode cX1_work 1 = .ok (.istore 4, 2) := by decide +kernel
theorem dX1_work_3 : decode cX1_work 3 = .ok (.iload 4, 2) := by decide +kernel
theorem dX1_work_5 : decode cX1_work 5 = .ok (.ifCond .lt 46, 3) := by decide +kernel
theorem dX1_work_8 : decode cX1_work 8 = .ok (.iload_n 2, 1) := by decide +kernel
theorem dX1_work_9 : decode cX1_work 9 = .ok (.iconst 1, 1) := by decide +kernel
theorem dX1_work_10 : decode cX1_work 10 = .ok (.iadd, 1) := by decide +kernel
theorem dX1_work_11 : decode cX1_work 11 = .ok (.iconst 3, 1) := by decide +kernel
theorem dX1_work_12 : decode cX1_work 12 = .ok (.imul, 1) := by decide +kernel
theorem dX1_work_13 : decode cX1_work 13 = .ok (.iconst 1, 1) := by decide +kernel
theorem dX1_work_14 : decode cX1_work 14 = .ok (.isub, 1) := by decide +kernel
theorem dX1_work_15 : decode cX1_work 15 = .ok (.istore 5, 2) := by decide +kernel
theorem dX1_work_17 : decode cX1_work 17 = .ok (.iload 5, 2) := by decide +kernel
theorem dX1_work_19 : decode cX1_work 19 = .ok (.ifCond .lt 26, 3) := by decide +kernel
theorem dX1_work_22 : decode cX1_work 22 = .ok (.aload_n 0, 1) := by decide +kernel
theorem dX1_work_23 : decode cX1_work 23 = .ok (.iload 4, 2) := by decide +kernel
theorem dX1_work_25 : decode cX1_work 25 = .ok (.iload 5, 2) := by decide +kernel
theorem dX1_work_27 : decode cX1_work 27 = .ok (.iconst 3, 1) := by decide +kernel
theorem dX1_work_28 : decode cX1_work 28 = .ok (.idiv, 1) := by decide +kernel
theorem dX1_work_29 : decode cX1_work 29 = .ok (.iload 5, 2) := by decide +kernel
theorem dX1_work_31 : decode cX1_work 31 = .ok (.iconst 3, 1) := by decide +kernel
theorem dX1_work_32 : decode cX1_work 32 = .ok (.irem, 1) := by decide +kernel
theorem dX1_work_33 : decode cX1_work 33 = .ok (.iload_n 1, 1) := by decide +kernel
theorem dX1_work_34 : decode cX1_work 34 = .ok (.iload_n 2, 1) := by decide +kernel
theorem dX1_work_35 : decode cX1_work 35 = .ok (.iload_n 3, 1) := by decide +kernel
theorem dX1_work_36 : decode cX1_work 36 = .ok (.invokevirtual 45, 3) := by decide +kernel
theorem dX1_work_39 : decode cX1_work 39 = .ok (.iinc 5 (-1), 3) := by decide +kernel
theorem dX1_work_42 : decode cX1_work 42 = .ok (.goto (-25), 3) := by decide +kernel
theorem dX1_work_45 : decode cX1_work 45 = .ok (.iinc 4 (-1), 3) := by decide +kernel
theorem dX1_work_48 : decode cX1_work 48 = .ok (.goto (-45), 3) := by decide +kernel
theorem dX1_work_51 : decode cX1_work 51 = .ok (.return_, 1) := by decide +kernel
theorem dX1_fill_0 : decode cX1_fill 0 = .ok (.iload_n 1, 1) := by decide +kernel
theorem dX1_fill_1 : decode cX1_fill 1 = .ok (.bipush 11, 2) := by decide +kernel
theorem dX1_fill_3 : decode cX1_fill 3 = .ok (.imul, 1) := by decide +kernel
theorem dX1_fill_4 : decode cX1_fill 4 = .ok (.iload_n 2, 1) := by decide +kernel
theorem dX1_fill_5 : decode cX1_fill 5 = .ok (.iadd, 1) := by decide +kernel
theorem dX1_fill_6 : decode cX1_fill 6 = .ok (.iconst 3, 1) := by decide +kernel
theorem dX1_fill_7 : decode cX1_fill 7 = .ok (.imul, 1) := by decide +kernel
theorem dX1_fill_8 : decode cX1_fill 8 = .ok (.iload_n 3, 1) := by decide +kernel
theorem dX1_fill_9 : decode cX1_fill 9 = .ok (.iadd, 1) := by decide +kernel
theorem dX1_fill_10 : decode cX1_fill 10 = .ok (.istore 7, 2) := by decide +kernel
theorem dX1_fill_12 : decode cX1_fill 12 = .ok (.aload_n 0, 1) := by decide +kernel
theorem dX1_fill_13 : decode cX1_fill 13 = .ok (.getfield 29, 3) := by decide +kernel
theorem dX1_fill_16 : decode cX1_fill 16 = .ok (.iload 7, 2) := by decide +kernel
theorem dX1_fill_18 : decode cX1_fill 18 = .ok (.ldc 36, 2) := by decide +kernel
theorem dX1_fill_20 : decode cX1_fill 20 = .ok (.iastore, 1) := by decide +kernel
theorem dX1_fill_21 : decode cX1_fill 21 = .ok (.aload_n 0, 1) := by decide +kernel
theorem dX1_fill_22 : decode cX1_fill 22 = .ok (.getfield 32, 3) := by decide +kernel
theorem dX1_fill_25 : decode cX1_fill 25 = .ok (.iload 7, 2) := by decide +kernel
theorem dX1_fill_27 : decode cX1_fill 27 = .ok (.iconst 0, 1) := by decide +kernel
theorem dX1_fill_28 : decode cX1_fill 28 = .ok (.iastore, 1) := by decide +kernel
theorem dX1_fill_29 : decode cX1_fill 29 = .ok (.iload_n 1, 1) := by decide +kernel
theorem dX1_fill_30 : decode cX1_fill 30 = .ok (.iload 4, 2) := by decide +kernel
theorem dX1_fill_32 : decode cX1_fill 32 = .ok (.if_icmp .ne 9, 3) := by decide +kernel
theorem dX1_fill_35 : decode cX1_fill 35 = .ok (.iload_n 2, 1) := by decide +kernel
theorem dX1_fill_36 : decode cX1_fill 36 = .ok (.iload 5, 2) := by decide +kernel
theorem dX1_fill_38 : decode cX1_fill 38 = .ok (.if_icmp .eq 21, 3) := by decide +kernel
theorem dX1_fill_41 : decode cX1_fill 41 = .ok (.iload 6, 2) := by decide +kernel
theorem dX1_fill_43 : decode cX1_fill 43 = .ok (.iconst 1, 1) := by decide +kernel
theorem dX1_fill_44 : decode cX1_fill 44 = .ok (.if_icmp .eq 15, 3) := by decide +kernel
theorem dX1_fill_47 : decode cX1_fill 47 = .ok (.iload 6, 2) := by decide +kernel
theorem dX1_fill_49 : decode cX1_fill 49 = .ok (.iconst 2, 1) := by decide +kernel
theorem dX1_fill_50 : decode cX1_fill 50 = .ok (.if_icmp .ne 17, 3) := by decide +kernel
theorem dX1_fill_53 : decode cX1_fill 53 = .ok (.iload_n 1, 1) := by decide +kernel
theorem dX1_fill_54 : decode cX1_fill 54 = .ok (.iload 4, 2) := by decide +kernel
theorem dX1_fill_56 : decode cX1_fill 56 = .ok (.if_icmp .ne 11, 3) := by decide +kernel
theorem dX1_fill_59 : decode cX1_fill 59 = .ok (.aload_n 0, 1) := by decide +kernel
theorem dX1_fill_60 : decode cX1_fill 60 = .ok (.iload 7, 2) := by decide +kernel
theorem dX1_fill_62 : decode cX1_fill 62 = .ok (.iconst 0, 1) := by decide +kernel
theorem dX1_fill_63 : decode cX1_fill 63 = .ok (.iconst 1, 1) := by decide +kernel
theorem dX1_fill_64 : decode cX1_fill 64 = .ok (.invokevirtual 37, 3) := by decide +kernel
theorem dX1_fill_67 : decode cX1_fill 67 = .ok (.iload_n 1, 1) := by decide +kernel
theorem dX1_fill_68 : decode cX1_fill 68 = .ok (.iload 4, 2) := by decide +kernel
theorem dX1_fill_70 : decode cX1_fill 70 = .ok (.if_icmp .ge 54, 3) := by decide +kernel
theorem dX1_fill_73 : decode cX1_fill 73 = .ok (.iload_n 2, 1) := by decide +kernel
theorem dX1_fill_74 : decode cX1_fill 74 = .ok (.iload 5, 2) := by decide +kernel
theorem dX1_fill_76 : decode cX1_fill 76 = .ok (.if_icmp .ge 48, 3) := by decide +kernel
theorem dX1_fill_79 : decode cX1_fill 79 = .ok (.iload_n 1, 1) := by decide +kernel
theorem dX1_fill_80 : decode cX1_fill 80 = .ok (.iconst 1, 1) := by decide +kernel
theorem dX1_fill_81 : decode cX1_fill 81 = .ok (.iadd, 1) := by decide +kernel
theorem dX1_fill_82 : decode cX1_fill 82 = .ok (.bipush 11, 2) := by decide +kernel
theorem dX1_fill_84 : decode cX1_fill 84 = .ok (.imul, 1) := by decide +kernel
theorem dX1_fill_85 : decode cX1_fill 85 = .ok (.iload_n 2, 1) := by decide +kernel
theorem dX1_fill_86 : decode cX1_fill 86 = .ok (.iadd, 1) := by decide +kernel
theorem dX1_fill_87 : decode cX1_fill 87 = .ok (.iconst 1, 1) := by decide +kernel
theorem dX1_fill_88 : decode cX1_fill 88 = .ok (.iadd, 1) := by decide +kernel
theorem dX1_fill_89 : decode cX1_fill 89 = .ok (.iconst 3, 1) := by decide +kernel
theorem dX1_fill_90 : decode cX1_fill 90 = .ok (.imul, 1) := by decide +kernel
theorem dX1_fill_91 : decode cX1_fill 91 = .ok (.istore 8, 2) := by decide +kernel
theorem dX1_fill_93 : decode cX1_fill 93 = .ok (.aload_n 0, 1) := by decide +kernel
theorem dX1_fill_94 : decode cX1_fill 94 = .ok (.getfield 29, 3) := by decide +kernel
theorem dX1_fill_97 : decode cX1_fill 97 = .ok (.iload 8, 2) := by decide +kernel
theorem dX1_fill_99 : decode cX1_fill 99 = .ok (.iaload, 1) := by decide +kernel
theorem dX1_fill_100 : decode cX1_fill 100 = .ok (.aload_n 0, 1) := by decide +kernel
theorem dX1_fill_101 : decode cX1_fill 101 = .ok (.iload_n 1, 1) := by decide +kernel
theorem dX1_fill_102 : decode cX1_fill 102 = .ok (.iload_n 2, 1) := by decide +kernel
theorem dX1_fill_103 : decode cX1_fill 103 = .ok (.invokevirtual 41, 3) := by decide +kernel
theorem dX1_fill_106 : decode cX1_fill 106 = .ok (.iadd, 1) := by decide +kernel
theorem dX1_fill_107 : decode cX1_fill 107 = .ok (.istore 9, 2) := by decide +kernel
theorem dX1_fill_109 : decode cX1_fill 109 = .ok (.aload_n 0, 1) := by decide +kernel
theorem dX1_fill_110 : decode cX1_fill 110 = .ok (.iload 7, 2) := by decide +kernel
theorem dX1_fill_112 : decode cX1_fill 112 = .ok (.iload 9, 2) := by decide +kernel
theorem dX1_fill_114 : decode cX1_fill 114 = .ok (.aload_n 0, 1) := by decide +kernel
theorem dX1_fill_115 : decode cX1_fill 115 = .ok (.getfield 32, 3) := by decide +kernel
theorem dX1_fill_118 : decode cX1_fill 118 = .ok (.iload 8, 2) := by decide +kernel
theorem dX1_fill_120 : decode cX1_fill 120 = .ok (.iaload, 1) := by decide +kernel
theorem dX1_fill_121 : decode cX1_fill 121 = .ok (.invokevirtual 37, 3) := by decide +kernel
theorem dX1_fill_124 : decode cX1_fill 124 = .ok (.iconst 1, 1) := by decide +kernel
theorem dX1_fill_125 : decode cX1_fill 125 = .ok (.istore 8, 2) := by decide +kernel
theorem dX1_fill_127 : decode cX1_fill 127 = .ok (.iload_n 3, 1) := by decide +kernel
theorem dX1_fill_128 : decode cX1_fill 128 = .ok (.iconst 1, 1) := by decide +kernel
theorem dX1_fill_129 : decode cX1_fill 129 = .ok (.if_icmp .eq 66, 3) := by decide +kernel
theorem dX1_fill_132 : decode cX1_fill 132 = .ok (.iload_n 1, 1) := by decide +kernel
theorem dX1_fill_133 : decode cX1_fill 133 = .ok (.iload 8, 2) := by decide +kernel
theorem dX1_fill_135 : decode cX1_fill 135 = .ok (.iadd, 1) := by decide +kernel
theorem dX1_fill_136 : decode cX1_fill 136 = .ok (.iload 4, 2) := by decide +kernel
theorem dX1_fill_138 : decode cX1_fill 138 = .ok (.if_icmp .gt 57, 3) := by decide +kernel
theorem dX1_fill_141 : decode cX1_fill 141 = .ok (.iload_n 1, 1) := by decide +kernel
theorem dX1_fill_142 : decode cX1_fill 142 = .ok (.iload 8, 2) := by decide +kernel
theorem dX1_fill_144 : decode cX1_fill 144 = .ok (.iadd, 1) := by decide +kernel
theorem dX1_fill_145 : decode cX1_fill 145 = .ok (.bipush 11, 2) := by decide +kernel
theorem dX1_fill_147 : decode cX1_fill 147 = .ok (.imul, 1) := by decide +kernel
theorem dX1_fill_148 : decode cX1_fill 148 = .ok (.iload_n 2, 1) := by decide +kernel
theorem dX1_fill_149 : decode cX1_fill 149 = .ok (.iadd, 1) := by decide +kernel
theorem dX1_fill_150 : decode cX1_fill 150 = .ok (.iconst 3, 1) := by decide +kernel
theorem dX1_fill_151 : decode cX1_fill 151 = .ok (.imul, 1) := by decide +kernel
theorem dX1_fill_152 : decode cX1_fill 152 = .ok (.iconst 1, 1) := by decide +kernel
theorem dX1_fill_153 : decode cX1_fill 153 = .ok (.iadd, 1) := by decide +kernel
theorem dX1_fill_154 : decode cX1_fill 154 = .ok (.istore 9, 2) := by decide +kernel
theorem dX1_fill_156 : decode cX1_fill 156 = .ok (.aload_n 0, 1) := by decide +kernel
theorem dX1_fill_157 : decode cX1_fill 157 = .ok (.iload 7, 2) := by decide +kernel
end
section
set_option maxRecDepth 100000
theorem dX1_fill_159 : decode cX1_fill 159 = .ok (.aload_n 0, 1) := by decide +kernel
theorem dX1_fill_160 : decode cX1_fill 160 = .ok (.getfield 29, 3) := by decide +kernel
theorem dX1_fill_163 : decode cX1_fill 163 = .ok (.iload 9, 2) := by decide +kernel
theorem dX1_fill_165 : decode cX1_fill 165 = .ok (.iaload, 1) := by decide +kernel
theorem dX1_fill_166 : decode cX1_fill 166 = .ok (.aload_n 0, 1) := by decide +kernel
theorem dX1_fill_167 : decode cX1_fill 167 = .ok (.getfield 23, 3) := by decide +kernel
theorem dX1_fill_170 : decode cX1_fill 170 = .ok (.isub, 1) := by decide +kernel
theorem dX1_fill_171 : decode cX1_fill 171 = .ok (.iload 8, 2) := by decide +kernel
theorem dX1_fill_173 : decode cX1_fill 173 = .ok (.aload_n 0, 1) := by decide +kernel
theorem dX1_fill_174 : decode cX1_fill 174 = .ok (.getfield 26, 3) := by decide +kernel
theorem dX1_fill_177 : decode cX1_fill 177 = .ok (.imul, 1) := by decide +kernel
theorem dX1_fill_178 : decode cX1_fill 178 = .ok (.isub, 1) := by decide +kernel
theorem dX1_fill_179 : decode cX1_fill 179 = .ok (.aload_n 0, 1) := by decide +kernel
theorem dX1_fill_180 : decode cX1_fill 180 = .ok (.getfield 32, 3) := by decide +kernel
theorem dX1_fill_183 : decode cX1_fill 183 = .ok (.iload 9, 2) := by decide +kernel
theorem dX1_fill_185 : decode cX1_fill 185 = .ok (.iaload, 1) := by decide +kernel
theorem dX1_fill_186 : decode cX1_fill 186 = .ok (.invokevirtual 37, 3) := by decide +kernel
theorem dX1_fill_189 : decode cX1_fill 189 = .ok (.iinc 8 1, 3) := by decide +kernel
theorem dX1_fill_192 : decode cX1_fill 192 = .ok (.goto (-65), 3) := by decide +kernel
theorem dX1_fill_195 : decode cX1_fill 195 = .ok (.iconst 1, 1) := by decide +kernel
theorem dX1_fill_196 : decode cX1_fill 196 = .ok (.istore 8, 2) := by decide +kernel
theorem dX1_fill_198 : decode cX1_fill 198 = .ok (.iload_n 3, 1) := by decide +kernel
theorem dX1_fill_199 : decode cX1_fill 199 = .ok (.iconst 2, 1) := by decide +kernel
theorem dX1_fill_200 : decode cX1_fill 200 = .ok (.if_icmp .eq 66, 3) := by decide +kernel
theorem dX1_fill_203 : decode cX1_fill 203 = .ok (.iload_n 2, 1) := by decide +kernel
theorem dX1_fill_204 : decode cX1_fill 204 = .ok (.iload 8, 2) := by decide +kernel
theorem dX1_fill_206 : decode cX1_fill 206 = .ok (.iadd, 1) := by decide +kernel
theorem dX1_fill_207 : decode cX1_fill 207 = .ok (.iload 5, 2) := by decide +kernel
theorem dX1_fill_209 : decode cX1_fill 209 = .ok (.if_icmp .gt 57, 3) := by decide +kernel
theorem dX1_fill_212 : decode cX1_fill 212 = .ok (.iload_n 1, 1) := by decide +kernel
theorem dX1_fill_213 : decode cX1_fill 213 = .ok (.bipush 11, 2) := by decide +kernel
theorem dX1_fill_215 : decode cX1_fill 215 = .ok (.imul, 1) := by decide +kernel
theorem dX1_fill_216 : decode cX1_fill 216 = .ok (.iload_n 2, 1) := by decide +kernel
theorem dX1_fill_217 : decode cX1_fill 217 = .ok (.iadd, 1) := by decide +kernel
theorem dX1_fill_218 : decode cX1_fill 218 = .ok (.iload 8, 2) := by decide +kernel
theorem dX1_fill_220 : decode cX1_fill 220 = .ok (.iadd, 1) := by decide +kernel
theorem dX1_fill_221 : decode cX1_fill 221 = .ok (.iconst 3, 1) := by decide +kernel
theorem dX1_fill_222 : decode cX1_fill 222 = .ok (.imul, 1) := by decide +kernel
theorem dX1_fill_223 : decode cX1_fill 223 = .ok (.iconst 2, 1) := by decide +kernel
theorem dX1_fill_224 : decode cX1_fill 224 = .ok (.iadd, 1) := by decide +kernel
theorem dX1_fill_225 : decode cX1_fill 225 = .ok (.istore 9, 2) := by decide +kernel
theorem dX1_fill_227 : decode cX1_fill 227 = .ok (.aload_n 0, 1) := by decide +kernel
theorem dX1_fill_228 : decode cX1_fill 228 = .ok (.iload 7, 2) := by decide +kernel
theorem dX1_fill_230 : decode cX1_fill 230 = .ok (.aload_n 0, 1) := by decide +kernel
theorem dX1_fill_231 : decode cX1_fill 231 = .ok (.getfield 29, 3) := by decide +kernel
theorem dX1_fill_234 : decode cX1_fill 234 = .ok (.iload 9, 2) := by decide +kernel
theorem dX1_fill_236 : decode cX1_fill 236 = .ok (.iaload, 1) := by decide +kernel
theorem dX1_fill_237 : decode cX1_fill 237 = .ok (.aload_n 0, 1) := by decide +kernel
theorem dX1_fill_238 : decode cX1_fill 238 = .ok (.getfield 23, 3) := by decide +kernel
theorem dX1_fill_241 : decode cX1_fill 241 = .ok (.isub, 1) := by decide +kernel
theorem dX1_fill_242 : decode cX1_fill 242 = .ok (.iload 8, 2) := by decide +kernel
theorem dX1_fill_244 : decode cX1_fill 244 = .ok (.aload_n 0, 1) := by decide +kernel
theorem dX1_fill_245 : decode cX1_fill 245 = .ok (.getfield 26, 3) := by decide +kernel
theorem dX1_fill_248 : decode cX1_fill 248 = .ok (.imul, 1) := by decide +kernel
theorem dX1_fill_249 : decode cX1_fill 249 = .ok (.isub, 1) := by decide +kernel
theorem dX1_fill_250 : decode cX1_fill 250 = .ok (.aload_n 0, 1) := by decide +kernel
theorem dX1_fill_251 : decode cX1_fill 251 = .ok (.getfield 32, 3) := by decide +kernel
theorem dX1_fill_254 : decode cX1_fill 254 = .ok (.iload 9, 2) := by decide +kernel
theorem dX1_fill_256 : decode cX1_fill 256 = .ok (.iaload, 1) := by decide +kernel
theorem dX1_fill_257 : decode cX1_fill 257 = .ok (.invokevirtual 37, 3) := by decide +kernel
theorem dX1_fill_260 : decode cX1_fill 260 = .ok (.iinc 8 1, 3) := by decide +kernel
theorem dX1_fill_263 : decode cX1_fill 263 = .ok (.goto (-65), 3) := by decide +kernel
theorem dX1_fill_266 : decode cX1_fill 266 = .ok (.return_, 1) := by decide +kernel
theorem dX1_offer_0 : decode cX1_offer 0 = .ok (.iload_n 2, 1) := by decide +kernel
theorem dX1_offer_1 : decode cX1_offer 1 = .ok (.aload_n 0, 1) := by decide +kernel
theorem dX1_offer_2 : decode cX1_offer 2 = .ok (.getfield 29, 3) := by decide +kernel
theorem dX1_offer_5 : decode cX1_offer 5 = .ok (.iload_n 1, 1) := by decide +kernel
theorem dX1_offer_6 : decode cX1_offer 6 = .ok (.iaload, 1) := by decide +kernel
theorem dX1_offer_7 : decode cX1_offer 7 = .ok (.if_icmp .le 17, 3) := by decide +kernel
theorem dX1_offer_10 : decode cX1_offer 10 = .ok (.aload_n 0, 1) := by decide +kernel
theorem dX1_offer_11 : decode cX1_offer 11 = .ok (.getfield 29, 3) := by decide +kernel
theorem dX1_offer_14 : decode cX1_offer 14 = .ok (.iload_n 1, 1) := by decide +kernel
theorem dX1_offer_15 : decode cX1_offer 15 = .ok (.iload_n 2, 1) := by decide +kernel
theorem dX1_offer_16 : decode cX1_offer 16 = .ok (.iastore, 1) := by decide +kernel
theorem dX1_offer_17 : decode cX1_offer 17 = .ok (.aload_n 0, 1) := by decide +kernel
theorem dX1_offer_18 : decode cX1_offer 18 = .ok (.getfield 32, 3) := by decide +kernel
theorem dX1_offer_21 : decode cX1_offer 21 = .ok (.iload_n 1, 1) := by decide +kernel
theorem dX1_offer_22 : decode cX1_offer 22 = .ok (.iconst 0, 1) := by decide +kernel
theorem dX1_offer_23 : decode cX1_offer 23 = .ok (.iastore, 1) := by decide +kernel
theorem dX1_offer_24 : decode cX1_offer 24 = .ok (.iload_n 2, 1) := by decide +kernel
theorem dX1_offer_25 : decode cX1_offer 25 = .ok (.aload_n 0, 1) := by decide +kernel
theorem dX1_offer_26 : decode cX1_offer 26 = .ok (.getfield 29, 3) := by decide +kernel
theorem dX1_offer_29 : decode cX1_offer 29 = .ok (.iload_n 1, 1) := by decide +kernel
theorem dX1_offer_30 : decode cX1_offer 30 = .ok (.iaload, 1) := by decide +kernel
theorem dX1_offer_31 : decode cX1_offer 31 = .ok (.if_icmp .ne 19, 3) := by decide +kernel
theorem dX1_offer_34 : decode cX1_offer 34 = .ok (.iload_n 2, 1) := by decide +kernel
theorem dX1_offer_35 : decode cX1_offer 35 = .ok (.ldc 35, 2) := by decide +kernel
theorem dX1_offer_37 : decode cX1_offer 37 = .ok (.if_icmp .le 13, 3) := by decide +kernel
theorem dX1_offer_40 : decode cX1_offer 40 = .ok (.aload_n 0, 1) := by decide +kernel
theorem dX1_offer_41 : decode cX1_offer 41 = .ok (.getfield 32, 3) := by decide +kernel
theorem dX1_offer_44 : decode cX1_offer 44 = .ok (.iload_n 1, 1) := by decide +kernel
theorem dX1_offer_45 : decode cX1_offer 45 = .ok (.dup2, 1) := by decide +kernel
theorem dX1_offer_46 : decode cX1_offer 46 = .ok (.iaload, 1) := by decide +kernel
theorem dX1_offer_47 : decode cX1_offer 47 = .ok (.iload_n 3, 1) := by decide +kernel
theorem dX1_offer_48 : decode cX1_offer 48 = .ok (.iadd, 1) := by decide +kernel
theorem dX1_offer_49 : decode cX1_offer 49 = .ok (.iastore, 1) := by decide +kernel
theorem dX1_offer_50 : decode cX1_offer 50 = .ok (.return_, 1) := by decide +kernel
theorem dX1_gain_0 : decode cX1_gain 0 = .ok (.aload_n 0, 1) := by decide +kernel
theorem dX1_gain_1 : decode cX1_gain 1 = .ok (.getfield 7, 3) := by decide +kernel
theorem dX1_gain_4 : decode cX1_gain 4 = .ok (.iload_n 1, 1) := by decide +kernel
theorem dX1_gain_5 : decode cX1_gain 5 = .ok (.iaload, 1) := by decide +kernel
theorem dX1_gain_6 : decode cX1_gain 6 = .ok (.aload_n 0, 1) := by decide +kernel
theorem dX1_gain_7 : decode cX1_gain 7 = .ok (.getfield 7, 3) := by decide +kernel
theorem dX1_gain_10 : decode cX1_gain 10 = .ok (.bipush 10, 2) := by decide +kernel
theorem dX1_gain_12 : decode cX1_gain 12 = .ok (.iload_n 2, 1) := by decide +kernel
theorem dX1_gain_13 : decode cX1_gain 13 = .ok (.iadd, 1) := by decide +kernel
theorem dX1_gain_14 : decode cX1_gain 14 = .ok (.iaload, 1) := by decide +kernel
theorem dX1_gain_15 : decode cX1_gain 15 = .ok (.if_icmp .ne 10, 3) := by decide +kernel
theorem dX1_gain_18 : decode cX1_gain 18 = .ok (.aload_n 0, 1) := by decide +kernel
theorem dX1_gain_19 : decode cX1_gain 19 = .ok (.getfield 16, 3) := by decide +kernel
theorem dX1_gain_22 : decode cX1_gain 22 = .ok (.goto 7, 3) := by decide +kernel
theorem dX1_gain_25 : decode cX1_gain 25 = .ok (.aload_n 0, 1) := by decide +kernel
theorem dX1_gain_26 : decode cX1_gain 26 = .ok (.getfield 20, 3) := by decide +kernel
theorem dX1_gain_29 : decode cX1_gain 29 = .ok (.ireturn, 1) := by decide +kernel
theorem dX1_ways_0 : decode cX1_ways 0 = .ok (.aload_n 0, 1) := by decide +kernel
theorem dX1_ways_1 : decode cX1_ways 1 = .ok (.aload_n 0, 1) := by decide +kernel
theorem dX1_ways_2 : decode cX1_ways 2 = .ok (.getfield 13, 3) := by decide +kernel
theorem dX1_ways_5 : decode cX1_ways 5 = .ok (.iconst 0, 1) := by decide +kernel
theorem dX1_ways_6 : decode cX1_ways 6 = .ok (.iaload, 1) := by decide +kernel
theorem dX1_ways_7 : decode cX1_ways 7 = .ok (.aload_n 0, 1) := by decide +kernel
theorem dX1_ways_8 : decode cX1_ways 8 = .ok (.getfield 13, 3) := by decide +kernel
theorem dX1_ways_11 : decode cX1_ways 11 = .ok (.iconst 1, 1) := by decide +kernel
theorem dX1_ways_12 : decode cX1_ways 12 = .ok (.iaload, 1) := by decide +kernel
theorem dX1_ways_13 : decode cX1_ways 13 = .ok (.iconst 0, 1) := by decide +kernel
theorem dX1_ways_14 : decode cX1_ways 14 = .ok (.invokevirtual 49, 3) := by decide +kernel
theorem dX1_ways_17 : decode cX1_ways 17 = .ok (.aload_n 0, 1) := by decide +kernel
theorem dX1_ways_18 : decode cX1_ways 18 = .ok (.getfield 32, 3) := by decide +kernel
theorem dX1_ways_21 : decode cX1_ways 21 = .ok (.iconst 0, 1) := by decide +kernel
theorem dX1_ways_22 : decode cX1_ways 22 = .ok (.iaload, 1) := by decide +kernel
theorem dX1_ways_23 : decode cX1_ways 23 = .ok (.ireturn, 1) := by decide +kernel
theorem dX1_column_0 : decode cX1_column 0 = .ok (.iload_n 1, 1) := by decide +kernel
theorem dX1_column_1 : decode cX1_column 1 = .ok (.ifCond .ge 9, 3) := by decide +kernel
theorem dX1_column_4 : decode cX1_column 4 = .ok (.sipush (-1000), 3) := by decide +kernel
theorem dX1_column_7 : decode cX1_column 7 = .ok (.goto 8, 3) := by decide +kernel
theorem dX1_column_10 : decode cX1_column 10 = .ok (.aload_n 0, 1) := by decide +kernel
theorem dX1_column_11 : decode cX1_column 11 = .ok (.iload_n 1, 1) := by decide +kernel
theorem dX1_column_12 : decode cX1_column 12 = .ok (.invokevirtual 63, 3) := by decide +kernel
theorem dX1_column_15 : decode cX1_column 15 = .ok (.ireturn, 1) := by decide +kernel
theorem dX1_walk_0 : decode cX1_walk 0 = .ok (.iconst 0, 1) := by decide +kernel
theorem dX1_walk_1 : decode cX1_walk 1 = .ok (.istore_n 2, 1) := by decide +kernel
theorem dX1_walk_2 : decode cX1_walk 2 = .ok (.iconst 0, 1) := by decide +kernel
theorem dX1_walk_3 : decode cX1_walk 3 = .ok (.istore_n 3, 1) := by decide +kernel
theorem dX1_walk_4 : decode cX1_walk 4 = .ok (.iconst 0, 1) := by decide +kernel
theorem dX1_walk_5 : decode cX1_walk 5 = .ok (.istore 4, 2) := by decide +kernel
theorem dX1_walk_7 : decode cX1_walk 7 = .ok (.iconst 0, 1) := by decide +kernel
theorem dX1_walk_8 : decode cX1_walk 8 = .ok (.istore 5, 2) := by decide +kernel
theorem dX1_walk_10 : decode cX1_walk 10 = .ok (.aload_n 0, 1) := by decide +kernel
theorem dX1_walk_11 : decode cX1_walk 11 = .ok (.invokevirtual 56, 3) := by decide +kernel
theorem dX1_walk_14 : decode cX1_walk 14 = .ok (.pop, 1) := by decide +kernel
theorem dX1_walk_15 : decode cX1_walk 15 = .ok (.iload 5, 2) := by decide +kernel
theorem dX1_walk_17 : decode cX1_walk 17 = .ok (.bipush 21, 2) := by decide +kernel
theorem dX1_walk_19 : decode cX1_walk 19 = .ok (.if_icmp .ge 68, 3) := by decide +kernel
theorem dX1_walk_22 : decode cX1_walk 22 = .ok (.aload_n 0, 1) := by decide +kernel
theorem dX1_walk_23 : decode cX1_walk 23 = .ok (.iload_n 2, 1) := by decide +kernel
theorem dX1_walk_24 : decode cX1_walk 24 = .ok (.iload_n 3, 1) := by decide +kernel
theorem dX1_walk_25 : decode cX1_walk 25 = .ok (.iload 4, 2) := by decide +kernel
theorem dX1_walk_27 : decode cX1_walk 27 = .ok (.invokevirtual 60, 3) := by decide +kernel
theorem dX1_walk_30 : decode cX1_walk 30 = .ok (.istore 6, 2) := by decide +kernel
theorem dX1_walk_32 : decode cX1_walk 32 = .ok (.iload 6, 2) := by decide +kernel
theorem dX1_walk_34 : decode cX1_walk 34 = .ok (.ifCond .ge 16, 3) := by decide +kernel
theorem dX1_walk_37 : decode cX1_walk 37 = .ok (.iload_n 1, 1) := by decide +kernel
theorem dX1_walk_38 : decode cX1_walk 38 = .ok (.ifCond .ge 8, 3) := by decide +kernel
theorem dX1_walk_41 : decode cX1_walk 41 = .ok (.iload 5, 2) := by decide +kernel
theorem dX1_walk_43 : decode cX1_walk 43 = .ok (.goto 6, 3) := by decide +kernel
theorem dX1_walk_46 : decode cX1_walk 46 = .ok (.sipush (-1000), 3) := by decide +kernel
theorem dX1_walk_49 : decode cX1_walk 49 = .ok (.ireturn, 1) := by decide +kernel
theorem dX1_walk_50 : decode cX1_walk 50 = .ok (.iload 5, 2) := by decide +kernel
theorem dX1_walk_52 : decode cX1_walk 52 = .ok (.iload_n 1, 1) := by decide +kernel
theorem dX1_walk_53 : decode cX1_walk 53 = .ok (.if_icmp .ne 6, 3) := by decide +kernel
theorem dX1_walk_56 : decode cX1_walk 56 = .ok (.iload 6, 2) := by decide +kernel
theorem dX1_walk_58 : decode cX1_walk 58 = .ok (.ireturn, 1) := by decide +kernel
theorem dX1_walk_59 : decode cX1_walk 59 = .ok (.iload 6, 2) := by decide +kernel
theorem dX1_walk_61 : decode cX1_walk 61 = .ok (.iconst 2, 1) := by decide +kernel
theorem dX1_walk_62 : decode cX1_walk 62 = .ok (.if_icmp .eq 6, 3) := by decide +kernel
theorem dX1_walk_65 : decode cX1_walk 65 = .ok (.iinc 2 1, 3) := by decide +kernel
theorem dX1_walk_68 : decode cX1_walk 68 = .ok (.iload 6, 2) := by decide +kernel
theorem dX1_walk_70 : decode cX1_walk 70 = .ok (.iconst 1, 1) := by decide +kernel
theorem dX1_walk_71 : decode cX1_walk 71 = .ok (.if_icmp .eq 6, 3) := by decide +kernel
theorem dX1_walk_74 : decode cX1_walk 74 = .ok (.iinc 3 1, 3) := by decide +kernel
theorem dX1_walk_77 : decode cX1_walk 77 = .ok (.iload 6, 2) := by decide +kernel
theorem dX1_walk_79 : decode cX1_walk 79 = .ok (.istore 4, 2) := by decide +kernel
theorem dX1_walk_81 : decode cX1_walk 81 = .ok (.iinc 5 1, 3) := by decide +kernel
theorem dX1_walk_84 : decode cX1_walk 84 = .ok (.goto (-69), 3) := by decide +kernel
theorem dX1_walk_87 : decode cX1_walk 87 = .ok (.sipush (-1000), 3) := by decide +kernel
theorem dX1_walk_90 : decode cX1_walk 90 = .ok (.ireturn, 1) := by decide +kernel
theorem dX1_sort_0 : decode cX1_sort 0 = .ok (.aload_n 0, 1) := by decide +kernel
theorem dX1_sort_1 : decode cX1_sort 1 = .ok (.getfield 13, 3) := by decide +kernel
theorem dX1_sort_4 : decode cX1_sort 4 = .ok (.iconst 0, 1) := by decide +kernel
theorem dX1_sort_5 : decode cX1_sort 5 = .ok (.iaload, 1) := by decide +kernel
theorem dX1_sort_6 : decode cX1_sort 6 = .ok (.istore 4, 2) := by decide +kernel
theorem dX1_sort_8 : decode cX1_sort 8 = .ok (.aload_n 0, 1) := by decide +kernel
theorem dX1_sort_9 : decode cX1_sort 9 = .ok (.getfield 13, 3) := by decide +kernel
theorem dX1_sort_12 : decode cX1_sort 12 = .ok (.iconst 1, 1) := by decide +kernel
theorem dX1_sort_13 : decode cX1_sort 13 = .ok (.iaload, 1) := by decide +kernel
theorem dX1_sort_14 : decode cX1_sort 14 = .ok (.istore 5, 2) := by decide +kernel
theorem dX1_sort_16 : decode cX1_sort 16 = .ok (.iload_n 1, 1) := by decide +kernel
theorem dX1_sort_17 : decode cX1_sort 17 = .ok (.iload 4, 2) := by decide +kernel
theorem dX1_sort_19 : decode cX1_sort 19 = .ok (.if_icmp .ne 11, 3) := by decide +kernel
theorem dX1_sort_22 : decode cX1_sort 22 = .ok (.iload_n 2, 1) := by decide +kernel
theorem dX1_sort_23 : decode cX1_sort 23 = .ok (.iload 5, 2) := by decide +kernel
theorem dX1_sort_25 : decode cX1_sort 25 = .ok (.if_icmp .ne 5, 3) := by decide +kernel
theorem dX1_sort_28 : decode cX1_sort 28 = .ok (.iconst (-1), 1) := by decide +kernel
theorem dX1_sort_29 : decode cX1_sort 29 = .ok (.ireturn, 1) := by decide +kernel
theorem dX1_sort_30 : decode cX1_sort 30 = .ok (.aload_n 0, 1) := by decide +kernel
theorem dX1_sort_31 : decode cX1_sort 31 = .ok (.iload_n 1, 1) := by decide +kernel
theorem dX1_sort_32 : decode cX1_sort 32 = .ok (.iload_n 2, 1) := by decide +kernel
theorem dX1_sort_33 : decode cX1_sort 33 = .ok (.iload_n 3, 1) := by decide +kernel
theorem dX1_sort_34 : decode cX1_sort 34 = .ok (.invokevirtual 52, 3) := by decide +kernel
theorem dX1_sort_37 : decode cX1_sort 37 = .ok (.istore 6, 2) := by decide +kernel
theorem dX1_sort_39 : decode cX1_sort 39 = .ok (.iload_n 1, 1) := by decide +kernel
theorem dX1_sort_40 : decode cX1_sort 40 = .ok (.iload 4, 2) := by decide +kernel
theorem dX1_sort_42 : decode cX1_sort 42 = .ok (.if_icmp .ge 34, 3) := by decide +kernel
theorem dX1_sort_45 : decode cX1_sort 45 = .ok (.iload_n 2, 1) := by decide +kernel
theorem dX1_sort_46 : decode cX1_sort 46 = .ok (.iload 5, 2) := by decide +kernel
theorem dX1_sort_48 : decode cX1_sort 48 = .ok (.if_icmp .ge 28, 3) := by decide +kernel
theorem dX1_sort_51 : decode cX1_sort 51 = .ok (.aload_n 0, 1) := by decide +kernel
theorem dX1_sort_52 : decode cX1_sort 52 = .ok (.iload_n 1, 1) := by decide +kernel
theorem dX1_sort_53 : decode cX1_sort 53 = .ok (.iconst 1, 1) := by decide +kernel
theorem dX1_sort_54 : decode cX1_sort 54 = .ok (.iadd, 1) := by decide +kernel
theorem dX1_sort_55 : decode cX1_sort 55 = .ok (.iload_n 2, 1) := by decide +kernel
theorem dX1_sort_56 : decode cX1_sort 56 = .ok (.iconst 1, 1) := by decide +kernel
theorem dX1_sort_57 : decode cX1_sort 57 = .ok (.iadd, 1) := by decide +kernel
theorem dX1_sort_58 : decode cX1_sort 58 = .ok (.iconst 0, 1) := by decide +kernel
theorem dX1_sort_59 : decode cX1_sort 59 = .ok (.invokevirtual 52, 3) := by decide +kernel
theorem dX1_sort_62 : decode cX1_sort 62 = .ok (.aload_n 0, 1) := by decide +kernel
theorem dX1_sort_63 : decode cX1_sort 63 = .ok (.iload_n 1, 1) := by decide +kernel
theorem dX1_sort_64 : decode cX1_sort 64 = .ok (.iload_n 2, 1) := by decide +kernel
theorem dX1_sort_65 : decode cX1_sort 65 = .ok (.invokevirtual 41, 3) := by decide +kernel
theorem dX1_sort_68 : decode cX1_sort 68 = .ok (.iadd, 1) := by decide +kernel
theorem dX1_sort_69 : decode cX1_sort 69 = .ok (.iload 6, 2) := by decide +kernel
theorem dX1_sort_71 : decode cX1_sort 71 = .ok (.if_icmp .ne 5, 3) := by decide +kernel
theorem dX1_sort_74 : decode cX1_sort 74 = .ok (.iconst 0, 1) := by decide +kernel
theorem dX1_sort_75 : decode cX1_sort 75 = .ok (.ireturn, 1) := by decide +kernel
theorem dX1_sort_76 : decode cX1_sort 76 = .ok (.aload_n 0, 1) := by decide +kernel
theorem dX1_sort_77 : decode cX1_sort 77 = .ok (.getfield 26, 3) := by decide +kernel
theorem dX1_sort_80 : decode cX1_sort 80 = .ok (.iload_n 3, 1) := by decide +kernel
theorem dX1_sort_81 : decode cX1_sort 81 = .ok (.iconst 1, 1) := by decide +kernel
theorem dX1_sort_82 : decode cX1_sort 82 = .ok (.if_icmp .ne 7, 3) := by decide +kernel
theorem dX1_sort_85 : decode cX1_sort 85 = .ok (.iconst 0, 1) := by decide +kernel
theorem dX1_sort_86 : decode cX1_sort 86 = .ok (.goto 7, 3) := by decide +kernel
theorem dX1_sort_89 : decode cX1_sort 89 = .ok (.aload_n 0, 1) := by decide +kernel
theorem dX1_sort_90 : decode cX1_sort 90 = .ok (.getfield 23, 3) := by decide +kernel
theorem dX1_sort_93 : decode cX1_sort 93 = .ok (.iadd, 1) := by decide +kernel
theorem dX1_sort_94 : decode cX1_sort 94 = .ok (.istore 7, 2) := by decide +kernel
theorem dX1_sort_96 : decode cX1_sort 96 = .ok (.iload_n 1, 1) := by decide +kernel
theorem dX1_sort_97 : decode cX1_sort 97 = .ok (.iload 4, 2) := by decide +kernel
theorem dX1_sort_99 : decode cX1_sort 99 = .ok (.if_icmp .ge 24, 3) := by decide +kernel
theorem dX1_sort_102 : decode cX1_sort 102 = .ok (.aload_n 0, 1) := by decide +kernel
theorem dX1_sort_103 : decode cX1_sort 103 = .ok (.iload_n 1, 1) := by decide +kernel
theorem dX1_sort_104 : decode cX1_sort 104 = .ok (.iconst 1, 1) := by decide +kernel
theorem dX1_sort_105 : decode cX1_sort 105 = .ok (.iadd, 1) := by decide +kernel
theorem dX1_sort_106 : decode cX1_sort 106 = .ok (.iload_n 2, 1) := by decide +kernel
theorem dX1_sort_107 : decode cX1_sort 107 = .ok (.iconst 1, 1) := by decide +kernel
theorem dX1_sort_108 : decode cX1_sort 108 = .ok (.invokevirtual 52, 3) := by decide +kernel
theorem dX1_sort_111 : decode cX1_sort 111 = .ok (.iload 7, 2) := by decide +kernel
theorem dX1_sort_113 : decode cX1_sort 113 = .ok (.isub, 1) := by decide +kernel
theorem dX1_sort_114 : decode cX1_sort 114 = .ok (.iload 6, 2) := by decide +kernel
theorem dX1_sort_116 : decode cX1_sort 116 = .ok (.if_icmp .ne 7, 3) := by decide +kernel
theorem dX1_sort_119 : decode cX1_sort 119 = .ok (.iconst 1, 1) := by decide +kernel
theorem dX1_sort_120 : decode cX1_sort 120 = .ok (.goto 4, 3) := by decide +kernel
theorem dX1_sort_123 : decode cX1_sort 123 = .ok (.iconst 2, 1) := by decide +kernel
theorem dX1_sort_124 : decode cX1_sort 124 = .ok (.ireturn, 1) := by decide +kernel
theorem dX1_rest_0 : decode cX1_rest 0 = .ok (.aload_n 0, 1) := by decide +kernel
theorem dX1_rest_1 : decode cX1_rest 1 = .ok (.getfield 29, 3) := by decide +kernel
theorem dX1_rest_4 : decode cX1_rest 4 = .ok (.iload_n 1, 1) := by decide +kernel
theorem dX1_rest_5 : decode cX1_rest 5 = .ok (.bipush 11, 2) := by decide +kernel
theorem dX1_rest_7 : decode cX1_rest 7 = .ok (.imul, 1) := by decide +kernel
theorem dX1_rest_8 : decode cX1_rest 8 = .ok (.iload_n 2, 1) := by decide +kernel
theorem dX1_rest_9 : decode cX1_rest 9 = .ok (.iadd, 1) := by decide +kernel
theorem dX1_rest_10 : decode cX1_rest 10 = .ok (.iconst 3, 1) := by decide +kernel
theorem dX1_rest_11 : decode cX1_rest 11 = .ok (.imul, 1) := by decide +kernel
theorem dX1_rest_12 : decode cX1_rest 12 = .ok (.iload_n 3, 1) := by decide +kernel
theorem dX1_rest_13 : decode cX1_rest 13 = .ok (.iadd, 1) := by decide +kernel
theorem dX1_rest_14 : decode cX1_rest 14 = .ok (.iaload, 1) := by decide +kernel
theorem dX1_rest_15 : decode cX1_rest 15 = .ok (.istore 4, 2) := by decide +kernel
theorem dX1_rest_17 : decode cX1_rest 17 = .ok (.iconst 1, 1) := by decide +kernel
theorem dX1_rest_18 : decode cX1_rest 18 = .ok (.istore 5, 2) := by decide +kernel
theorem dX1_rest_20 : decode cX1_rest 20 = .ok (.iload_n 3, 1) := by decide +kernel
theorem dX1_rest_21 : decode cX1_rest 21 = .ok (.iconst 1, 1) := by decide +kernel
theorem dX1_rest_22 : decode cX1_rest 22 = .ok (.if_icmp .ne 61, 3) := by decide +kernel
theorem dX1_rest_25 : decode cX1_rest 25 = .ok (.iload_n 1, 1) := by decide +kernel
theorem dX1_rest_26 : decode cX1_rest 26 = .ok (.iload 5, 2) := by decide +kernel
end
section
set_option maxRecDepth 100000
theorem dX1_rest_28 : decode cX1_rest 28 = .ok (.iadd, 1) := by decide +kernel
theorem dX1_rest_29 : decode cX1_rest 29 = .ok (.aload_n 0, 1) := by decide +kernel
theorem dX1_rest_30 : decode cX1_rest 30 = .ok (.getfield 13, 3) := by decide +kernel
theorem dX1_rest_33 : decode cX1_rest 33 = .ok (.iconst 0, 1) := by decide +kernel
theorem dX1_rest_34 : decode cX1_rest 34 = .ok (.iaload, 1) := by decide +kernel
theorem dX1_rest_35 : decode cX1_rest 35 = .ok (.if_icmp .gt 48, 3) := by decide +kernel
theorem dX1_rest_38 : decode cX1_rest 38 = .ok (.aload_n 0, 1) := by decide +kernel
theorem dX1_rest_39 : decode cX1_rest 39 = .ok (.getfield 29, 3) := by decide +kernel
theorem dX1_rest_42 : decode cX1_rest 42 = .ok (.iload_n 1, 1) := by decide +kernel
theorem dX1_rest_43 : decode cX1_rest 43 = .ok (.iload 5, 2) := by decide +kernel
theorem dX1_rest_45 : decode cX1_rest 45 = .ok (.iadd, 1) := by decide +kernel
theorem dX1_rest_46 : decode cX1_rest 46 = .ok (.bipush 11, 2) := by decide +kernel
theorem dX1_rest_48 : decode cX1_rest 48 = .ok (.imul, 1) := by decide +kernel
theorem dX1_rest_49 : decode cX1_rest 49 = .ok (.iload_n 2, 1) := by decide +kernel
theorem dX1_rest_50 : decode cX1_rest 50 = .ok (.iadd, 1) := by decide +kernel
theorem dX1_rest_51 : decode cX1_rest 51 = .ok (.iconst 3, 1) := by decide +kernel
theorem dX1_rest_52 : decode cX1_rest 52 = .ok (.imul, 1) := by decide +kernel
theorem dX1_rest_53 : decode cX1_rest 53 = .ok (.iconst 1, 1) := by decide +kernel
theorem dX1_rest_54 : decode cX1_rest 54 = .ok (.iadd, 1) := by decide +kernel
theorem dX1_rest_55 : decode cX1_rest 55 = .ok (.iaload, 1) := by decide +kernel
theorem dX1_rest_56 : decode cX1_rest 56 = .ok (.iload 5, 2) := by decide +kernel
theorem dX1_rest_58 : decode cX1_rest 58 = .ok (.aload_n 0, 1) := by decide +kernel
theorem dX1_rest_59 : decode cX1_rest 59 = .ok (.getfield 26, 3) := by decide +kernel
theorem dX1_rest_62 : decode cX1_rest 62 = .ok (.imul, 1) := by decide +kernel
theorem dX1_rest_63 : decode cX1_rest 63 = .ok (.isub, 1) := by decide +kernel
theorem dX1_rest_64 : decode cX1_rest 64 = .ok (.istore 6, 2) := by decide +kernel
theorem dX1_rest_66 : decode cX1_rest 66 = .ok (.iload 6, 2) := by decide +kernel
theorem dX1_rest_68 : decode cX1_rest 68 = .ok (.iload 4, 2) := by decide +kernel
theorem dX1_rest_70 : decode cX1_rest 70 = .ok (.if_icmp .le 7, 3) := by decide +kernel
theorem dX1_rest_73 : decode cX1_rest 73 = .ok (.iload 6, 2) := by decide +kernel
theorem dX1_rest_75 : decode cX1_rest 75 = .ok (.istore 4, 2) := by decide +kernel
theorem dX1_rest_77 : decode cX1_rest 77 = .ok (.iinc 5 1, 3) := by decide +kernel
theorem dX1_rest_80 : decode cX1_rest 80 = .ok (.goto (-60), 3) := by decide +kernel
theorem dX1_rest_83 : decode cX1_rest 83 = .ok (.iconst 1, 1) := by decide +kernel
theorem dX1_rest_84 : decode cX1_rest 84 = .ok (.istore 5, 2) := by decide +kernel
theorem dX1_rest_86 : decode cX1_rest 86 = .ok (.iload_n 3, 1) := by decide +kernel
theorem dX1_rest_87 : decode cX1_rest 87 = .ok (.iconst 2, 1) := by decide +kernel
theorem dX1_rest_88 : decode cX1_rest 88 = .ok (.if_icmp .ne 61, 3) := by decide +kernel
theorem dX1_rest_91 : decode cX1_rest 91 = .ok (.iload_n 2, 1) := by decide +kernel
theorem dX1_rest_92 : decode cX1_rest 92 = .ok (.iload 5, 2) := by decide +kernel
theorem dX1_rest_94 : decode cX1_rest 94 = .ok (.iadd, 1) := by decide +kernel
theorem dX1_rest_95 : decode cX1_rest 95 = .ok (.aload_n 0, 1) := by decide +kernel
theorem dX1_rest_96 : decode cX1_rest 96 = .ok (.getfield 13, 3) := by decide +kernel
theorem dX1_rest_99 : decode cX1_rest 99 = .ok (.iconst 1, 1) := by decide +kernel
theorem dX1_rest_100 : decode cX1_rest 100 = .ok (.iaload, 1) := by decide +kernel
theorem dX1_rest_101 : decode cX1_rest 101 = .ok (.if_icmp .gt 48, 3) := by decide +kernel
theorem dX1_rest_104 : decode cX1_rest 104 = .ok (.aload_n 0, 1) := by decide +kernel
theorem dX1_rest_105 : decode cX1_rest 105 = .ok (.getfield 29, 3) := by decide +kernel
theorem dX1_rest_108 : decode cX1_rest 108 = .ok (.iload_n 1, 1) := by decide +kernel
theorem dX1_rest_109 : decode cX1_rest 109 = .ok (.bipush 11, 2) := by decide +kernel
theorem dX1_rest_111 : decode cX1_rest 111 = .ok (.imul, 1) := by decide +kernel
theorem dX1_rest_112 : decode cX1_rest 112 = .ok (.iload_n 2, 1) := by decide +kernel
theorem dX1_rest_113 : decode cX1_rest 113 = .ok (.iadd, 1) := by decide +kernel
theorem dX1_rest_114 : decode cX1_rest 114 = .ok (.iload 5, 2) := by decide +kernel
theorem dX1_rest_116 : decode cX1_rest 116 = .ok (.iadd, 1) := by decide +kernel
theorem dX1_rest_117 : decode cX1_rest 117 = .ok (.iconst 3, 1) := by decide +kernel
theorem dX1_rest_118 : decode cX1_rest 118 = .ok (.imul, 1) := by decide +kernel
theorem dX1_rest_119 : decode cX1_rest 119 = .ok (.iconst 2, 1) := by decide +kernel
theorem dX1_rest_120 : decode cX1_rest 120 = .ok (.iadd, 1) := by decide +kernel
theorem dX1_rest_121 : decode cX1_rest 121 = .ok (.iaload, 1) := by decide +kernel
theorem dX1_rest_122 : decode cX1_rest 122 = .ok (.iload 5, 2) := by decide +kernel
theorem dX1_rest_124 : decode cX1_rest 124 = .ok (.aload_n 0, 1) := by decide +kernel
theorem dX1_rest_125 : decode cX1_rest 125 = .ok (.getfield 26, 3) := by decide +kernel
theorem dX1_rest_128 : decode cX1_rest 128 = .ok (.imul, 1) := by decide +kernel
theorem dX1_rest_129 : decode cX1_rest 129 = .ok (.isub, 1) := by decide +kernel
theorem dX1_rest_130 : decode cX1_rest 130 = .ok (.istore 6, 2) := by decide +kernel
theorem dX1_rest_132 : decode cX1_rest 132 = .ok (.iload 6, 2) := by decide +kernel
theorem dX1_rest_134 : decode cX1_rest 134 = .ok (.iload 4, 2) := by decide +kernel
theorem dX1_rest_136 : decode cX1_rest 136 = .ok (.if_icmp .le 7, 3) := by decide +kernel
theorem dX1_rest_139 : decode cX1_rest 139 = .ok (.iload 6, 2) := by decide +kernel
theorem dX1_rest_141 : decode cX1_rest 141 = .ok (.istore 4, 2) := by decide +kernel
theorem dX1_rest_143 : decode cX1_rest 143 = .ok (.iinc 5 1, 3) := by decide +kernel
theorem dX1_rest_146 : decode cX1_rest 146 = .ok (.goto (-60), 3) := by decide +kernel
theorem dX1_rest_149 : decode cX1_rest 149 = .ok (.iload 4, 2) := by decide +kernel
theorem dX1_rest_151 : decode cX1_rest 151 = .ok (.ireturn, 1) := by decide +kernel
theorem dX1_columns_0 : decode cX1_columns 0 = .ok (.aload_n 0, 1) := by decide +kernel
theorem dX1_columns_1 : decode cX1_columns 1 = .ok (.iconst (-1), 1) := by decide +kernel
theorem dX1_columns_2 : decode cX1_columns 2 = .ok (.invokevirtual 63, 3) := by decide +kernel
theorem dX1_columns_5 : decode cX1_columns 5 = .ok (.ireturn, 1) := by decide +kernel
theorem dX1_local_0 : decode cX1_local 0 = .ok (.iconst 0, 1) := by decide +kernel
theorem dX1_local_1 : decode cX1_local 1 = .ok (.istore_n 1, 1) := by decide +kernel
theorem dX1_local_2 : decode cX1_local 2 = .ok (.aload_n 0, 1) := by decide +kernel
theorem dX1_local_3 : decode cX1_local 3 = .ok (.aload_n 0, 1) := by decide +kernel
theorem dX1_local_4 : decode cX1_local 4 = .ok (.getfield 13, 3) := by decide +kernel
theorem dX1_local_7 : decode cX1_local 7 = .ok (.iconst 0, 1) := by decide +kernel
theorem dX1_local_8 : decode cX1_local 8 = .ok (.iaload, 1) := by decide +kernel
theorem dX1_local_9 : decode cX1_local 9 = .ok (.aload_n 0, 1) := by decide +kernel
theorem dX1_local_10 : decode cX1_local 10 = .ok (.getfield 13, 3) := by decide +kernel
theorem dX1_local_13 : decode cX1_local 13 = .ok (.iconst 1, 1) := by decide +kernel
theorem dX1_local_14 : decode cX1_local 14 = .ok (.iaload, 1) := by decide +kernel
theorem dX1_local_15 : decode cX1_local 15 = .ok (.iconst 1, 1) := by decide +kernel
theorem dX1_local_16 : decode cX1_local 16 = .ok (.invokevirtual 49, 3) := by decide +kernel
theorem dX1_local_19 : decode cX1_local 19 = .ok (.iconst 0, 1) := by decide +kernel
theorem dX1_local_20 : decode cX1_local 20 = .ok (.istore_n 2, 1) := by decide +kernel
theorem dX1_local_21 : decode cX1_local 21 = .ok (.iload_n 2, 1) := by decide +kernel
theorem dX1_local_22 : decode cX1_local 22 = .ok (.aload_n 0, 1) := by decide +kernel
theorem dX1_local_23 : decode cX1_local 23 = .ok (.getfield 13, 3) := by decide +kernel
theorem dX1_local_26 : decode cX1_local 26 = .ok (.iconst 0, 1) := by decide +kernel
theorem dX1_local_27 : decode cX1_local 27 = .ok (.iaload, 1) := by decide +kernel
theorem dX1_local_28 : decode cX1_local 28 = .ok (.if_icmp .gt 58, 3) := by decide +kernel
theorem dX1_local_31 : decode cX1_local 31 = .ok (.iconst 0, 1) := by decide +kernel
theorem dX1_local_32 : decode cX1_local 32 = .ok (.istore_n 3, 1) := by decide +kernel
theorem dX1_local_33 : decode cX1_local 33 = .ok (.iload_n 3, 1) := by decide +kernel
theorem dX1_local_34 : decode cX1_local 34 = .ok (.aload_n 0, 1) := by decide +kernel
theorem dX1_local_35 : decode cX1_local 35 = .ok (.getfield 13, 3) := by decide +kernel
theorem dX1_local_38 : decode cX1_local 38 = .ok (.iconst 1, 1) := by decide +kernel
theorem dX1_local_39 : decode cX1_local 39 = .ok (.iaload, 1) := by decide +kernel
theorem dX1_local_40 : decode cX1_local 40 = .ok (.if_icmp .gt 40, 3) := by decide +kernel
theorem dX1_local_43 : decode cX1_local 43 = .ok (.aload_n 0, 1) := by decide +kernel
theorem dX1_local_44 : decode cX1_local 44 = .ok (.getfield 29, 3) := by decide +kernel
theorem dX1_local_47 : decode cX1_local 47 = .ok (.iload_n 2, 1) := by decide +kernel
theorem dX1_local_48 : decode cX1_local 48 = .ok (.bipush 11, 2) := by decide +kernel
theorem dX1_local_50 : decode cX1_local 50 = .ok (.imul, 1) := by decide +kernel
theorem dX1_local_51 : decode cX1_local 51 = .ok (.iload_n 3, 1) := by decide +kernel
theorem dX1_local_52 : decode cX1_local 52 = .ok (.iadd, 1) := by decide +kernel
theorem dX1_local_53 : decode cX1_local 53 = .ok (.iconst 3, 1) := by decide +kernel
theorem dX1_local_54 : decode cX1_local 54 = .ok (.imul, 1) := by decide +kernel
theorem dX1_local_55 : decode cX1_local 55 = .ok (.iaload, 1) := by decide +kernel
theorem dX1_local_56 : decode cX1_local 56 = .ok (.iload_n 1, 1) := by decide +kernel
theorem dX1_local_57 : decode cX1_local 57 = .ok (.if_icmp .le 17, 3) := by decide +kernel
theorem dX1_local_60 : decode cX1_local 60 = .ok (.aload_n 0, 1) := by decide +kernel
theorem dX1_local_61 : decode cX1_local 61 = .ok (.getfield 29, 3) := by decide +kernel
theorem dX1_local_64 : decode cX1_local 64 = .ok (.iload_n 2, 1) := by decide +kernel
theorem dX1_local_65 : decode cX1_local 65 = .ok (.bipush 11, 2) := by decide +kernel
theorem dX1_local_67 : decode cX1_local 67 = .ok (.imul, 1) := by decide +kernel
theorem dX1_local_68 : decode cX1_local 68 = .ok (.iload_n 3, 1) := by decide +kernel
theorem dX1_local_69 : decode cX1_local 69 = .ok (.iadd, 1) := by decide +kernel
theorem dX1_local_70 : decode cX1_local 70 = .ok (.iconst 3, 1) := by decide +kernel
theorem dX1_local_71 : decode cX1_local 71 = .ok (.imul, 1) := by decide +kernel
theorem dX1_local_72 : decode cX1_local 72 = .ok (.iaload, 1) := by decide +kernel
theorem dX1_local_73 : decode cX1_local 73 = .ok (.istore_n 1, 1) := by decide +kernel
theorem dX1_local_74 : decode cX1_local 74 = .ok (.iinc 3 1, 3) := by decide +kernel
theorem dX1_local_77 : decode cX1_local 77 = .ok (.goto (-44), 3) := by decide +kernel
theorem dX1_local_80 : decode cX1_local 80 = .ok (.iinc 2 1, 3) := by decide +kernel
theorem dX1_local_83 : decode cX1_local 83 = .ok (.goto (-62), 3) := by decide +kernel
theorem dX1_local_86 : decode cX1_local 86 = .ok (.iload_n 1, 1) := by decide +kernel
theorem dX1_local_87 : decode cX1_local 87 = .ok (.ireturn, 1) := by decide +kernel
theorem dX1_fitted_0 : decode cX1_fitted 0 = .ok (.aload_n 0, 1) := by decide +kernel
theorem dX1_fitted_1 : decode cX1_fitted 1 = .ok (.aload_n 0, 1) := by decide +kernel
theorem dX1_fitted_2 : decode cX1_fitted 2 = .ok (.getfield 13, 3) := by decide +kernel
theorem dX1_fitted_5 : decode cX1_fitted 5 = .ok (.iconst 0, 1) := by decide +kernel
theorem dX1_fitted_6 : decode cX1_fitted 6 = .ok (.iaload, 1) := by decide +kernel
theorem dX1_fitted_7 : decode cX1_fitted 7 = .ok (.aload_n 0, 1) := by decide +kernel
theorem dX1_fitted_8 : decode cX1_fitted 8 = .ok (.getfield 13, 3) := by decide +kernel
theorem dX1_fitted_11 : decode cX1_fitted 11 = .ok (.iconst 1, 1) := by decide +kernel
theorem dX1_fitted_12 : decode cX1_fitted 12 = .ok (.iaload, 1) := by decide +kernel
theorem dX1_fitted_13 : decode cX1_fitted 13 = .ok (.iconst 2, 1) := by decide +kernel
theorem dX1_fitted_14 : decode cX1_fitted 14 = .ok (.invokevirtual 49, 3) := by decide +kernel
theorem dX1_fitted_17 : decode cX1_fitted 17 = .ok (.aload_n 0, 1) := by decide +kernel
theorem dX1_fitted_18 : decode cX1_fitted 18 = .ok (.getfield 29, 3) := by decide +kernel
theorem dX1_fitted_21 : decode cX1_fitted 21 = .ok (.iconst 0, 1) := by decide +kernel
theorem dX1_fitted_22 : decode cX1_fitted 22 = .ok (.iaload, 1) := by decide +kernel
theorem dX1_fitted_23 : decode cX1_fitted 23 = .ok (.istore_n 1, 1) := by decide +kernel
theorem dX1_fitted_24 : decode cX1_fitted 24 = .ok (.iconst 0, 1) := by decide +kernel
theorem dX1_fitted_25 : decode cX1_fitted 25 = .ok (.istore_n 2, 1) := by decide +kernel
theorem dX1_fitted_26 : decode cX1_fitted 26 = .ok (.iload_n 2, 1) := by decide +kernel
theorem dX1_fitted_27 : decode cX1_fitted 27 = .ok (.aload_n 0, 1) := by decide +kernel
theorem dX1_fitted_28 : decode cX1_fitted 28 = .ok (.getfield 13, 3) := by decide +kernel
theorem dX1_fitted_31 : decode cX1_fitted 31 = .ok (.iconst 1, 1) := by decide +kernel
theorem dX1_fitted_32 : decode cX1_fitted 32 = .ok (.iaload, 1) := by decide +kernel
theorem dX1_fitted_33 : decode cX1_fitted 33 = .ok (.if_icmp .gt 30, 3) := by decide +kernel
theorem dX1_fitted_36 : decode cX1_fitted 36 = .ok (.aload_n 0, 1) := by decide +kernel
theorem dX1_fitted_37 : decode cX1_fitted 37 = .ok (.getfield 29, 3) := by decide +kernel
theorem dX1_fitted_40 : decode cX1_fitted 40 = .ok (.iload_n 2, 1) := by decide +kernel
theorem dX1_fitted_41 : decode cX1_fitted 41 = .ok (.iconst 3, 1) := by decide +kernel
theorem dX1_fitted_42 : decode cX1_fitted 42 = .ok (.imul, 1) := by decide +kernel
theorem dX1_fitted_43 : decode cX1_fitted 43 = .ok (.iaload, 1) := by decide +kernel
theorem dX1_fitted_44 : decode cX1_fitted 44 = .ok (.iload_n 1, 1) := by decide +kernel
theorem dX1_fitted_45 : decode cX1_fitted 45 = .ok (.if_icmp .le 12, 3) := by decide +kernel
theorem dX1_fitted_48 : decode cX1_fitted 48 = .ok (.aload_n 0, 1) := by decide +kernel
theorem dX1_fitted_49 : decode cX1_fitted 49 = .ok (.getfield 29, 3) := by decide +kernel
theorem dX1_fitted_52 : decode cX1_fitted 52 = .ok (.iload_n 2, 1) := by decide +kernel
theorem dX1_fitted_53 : decode cX1_fitted 53 = .ok (.iconst 3, 1) := by decide +kernel
theorem dX1_fitted_54 : decode cX1_fitted 54 = .ok (.imul, 1) := by decide +kernel
theorem dX1_fitted_55 : decode cX1_fitted 55 = .ok (.iaload, 1) := by decide +kernel
theorem dX1_fitted_56 : decode cX1_fitted 56 = .ok (.istore_n 1, 1) := by decide +kernel
theorem dX1_fitted_57 : decode cX1_fitted 57 = .ok (.iinc 2 1, 3) := by decide +kernel
theorem dX1_fitted_60 : decode cX1_fitted 60 = .ok (.goto (-34), 3) := by decide +kernel
theorem dX1_fitted_63 : decode cX1_fitted 63 = .ok (.iload_n 1, 1) := by decide +kernel
theorem dX1_fitted_64 : decode cX1_fitted 64 = .ok (.ireturn, 1) := by decide +kernel
theorem dX1_overlap_0 : decode cX1_overlap 0 = .ok (.aload_n 0, 1) := by decide +kernel
theorem dX1_overlap_1 : decode cX1_overlap 1 = .ok (.aload_n 0, 1) := by decide +kernel
theorem dX1_overlap_2 : decode cX1_overlap 2 = .ok (.getfield 13, 3) := by decide +kernel
theorem dX1_overlap_5 : decode cX1_overlap 5 = .ok (.iconst 0, 1) := by decide +kernel
theorem dX1_overlap_6 : decode cX1_overlap 6 = .ok (.iaload, 1) := by decide +kernel
theorem dX1_overlap_7 : decode cX1_overlap 7 = .ok (.aload_n 0, 1) := by decide +kernel
theorem dX1_overlap_8 : decode cX1_overlap 8 = .ok (.getfield 13, 3) := by decide +kernel
theorem dX1_overlap_11 : decode cX1_overlap 11 = .ok (.iconst 1, 1) := by decide +kernel
theorem dX1_overlap_12 : decode cX1_overlap 12 = .ok (.iaload, 1) := by decide +kernel
theorem dX1_overlap_13 : decode cX1_overlap 13 = .ok (.iconst 2, 1) := by decide +kernel
theorem dX1_overlap_14 : decode cX1_overlap 14 = .ok (.invokevirtual 49, 3) := by decide +kernel
theorem dX1_overlap_17 : decode cX1_overlap 17 = .ok (.aload_n 0, 1) := by decide +kernel
theorem dX1_overlap_18 : decode cX1_overlap 18 = .ok (.getfield 29, 3) := by decide +kernel
theorem dX1_overlap_21 : decode cX1_overlap 21 = .ok (.iconst 0, 1) := by decide +kernel
theorem dX1_overlap_22 : decode cX1_overlap 22 = .ok (.iaload, 1) := by decide +kernel
theorem dX1_overlap_23 : decode cX1_overlap 23 = .ok (.istore_n 1, 1) := by decide +kernel
theorem dX1_overlap_24 : decode cX1_overlap 24 = .ok (.iconst 0, 1) := by decide +kernel
theorem dX1_overlap_25 : decode cX1_overlap 25 = .ok (.istore_n 2, 1) := by decide +kernel
theorem dX1_overlap_26 : decode cX1_overlap 26 = .ok (.iload_n 2, 1) := by decide +kernel
theorem dX1_overlap_27 : decode cX1_overlap 27 = .ok (.aload_n 0, 1) := by decide +kernel
theorem dX1_overlap_28 : decode cX1_overlap 28 = .ok (.getfield 13, 3) := by decide +kernel
theorem dX1_overlap_31 : decode cX1_overlap 31 = .ok (.iconst 0, 1) := by decide +kernel
theorem dX1_overlap_32 : decode cX1_overlap 32 = .ok (.iaload, 1) := by decide +kernel
theorem dX1_overlap_33 : decode cX1_overlap 33 = .ok (.if_icmp .gt 32, 3) := by decide +kernel
theorem dX1_overlap_36 : decode cX1_overlap 36 = .ok (.aload_n 0, 1) := by decide +kernel
theorem dX1_overlap_37 : decode cX1_overlap 37 = .ok (.getfield 29, 3) := by decide +kernel
theorem dX1_overlap_40 : decode cX1_overlap 40 = .ok (.iload_n 2, 1) := by decide +kernel
theorem dX1_overlap_41 : decode cX1_overlap 41 = .ok (.bipush 33, 2) := by decide +kernel
theorem dX1_overlap_43 : decode cX1_overlap 43 = .ok (.imul, 1) := by decide +kernel
theorem dX1_overlap_44 : decode cX1_overlap 44 = .ok (.iaload, 1) := by decide +kernel
theorem dX1_overlap_45 : decode cX1_overlap 45 = .ok (.iload_n 1, 1) := by decide +kernel
theorem dX1_overlap_46 : decode cX1_overlap 46 = .ok (.if_icmp .le 13, 3) := by decide +kernel
theorem dX1_overlap_49 : decode cX1_overlap 49 = .ok (.aload_n 0, 1) := by decide +kernel
theorem dX1_overlap_50 : decode cX1_overlap 50 = .ok (.getfield 29, 3) := by decide +kernel
theorem dX1_overlap_53 : decode cX1_overlap 53 = .ok (.iload_n 2, 1) := by decide +kernel
theorem dX1_overlap_54 : decode cX1_overlap 54 = .ok (.bipush 33, 2) := by decide +kernel
theorem dX1_overlap_56 : decode cX1_overlap 56 = .ok (.imul, 1) := by decide +kernel
theorem dX1_overlap_57 : decode cX1_overlap 57 = .ok (.iaload, 1) := by decide +kernel
theorem dX1_overlap_58 : decode cX1_overlap 58 = .ok (.istore_n 1, 1) := by decide +kernel
theorem dX1_overlap_59 : decode cX1_overlap 59 = .ok (.iinc 2 1, 3) := by decide +kernel
theorem dX1_overlap_62 : decode cX1_overlap 62 = .ok (.goto (-36), 3) := by decide +kernel
theorem dX1_overlap_65 : decode cX1_overlap 65 = .ok (.iload_n 1, 1) := by decide +kernel
theorem dX1_overlap_66 : decode cX1_overlap 66 = .ok (.ireturn, 1) := by decide +kernel
theorem dX1_paired_0 : decode cX1_paired 0 = .ok (.iload_n 1, 1) := by decide +kernel
theorem dX1_paired_1 : decode cX1_paired 1 = .ok (.ifCond .lt 27, 3) := by decide +kernel
theorem dX1_paired_4 : decode cX1_paired 4 = .ok (.iload_n 1, 1) := by decide +kernel
theorem dX1_paired_5 : decode cX1_paired 5 = .ok (.aload_n 0, 1) := by decide +kernel
theorem dX1_paired_6 : decode cX1_paired 6 = .ok (.getfield 13, 3) := by decide +kernel
theorem dX1_paired_9 : decode cX1_paired 9 = .ok (.iconst 0, 1) := by decide +kernel
theorem dX1_paired_10 : decode cX1_paired 10 = .ok (.iaload, 1) := by decide +kernel
theorem dX1_paired_11 : decode cX1_paired 11 = .ok (.if_icmp .ge 17, 3) := by decide +kernel
theorem dX1_paired_14 : decode cX1_paired 14 = .ok (.iload_n 2, 1) := by decide +kernel
theorem dX1_paired_15 : decode cX1_paired 15 = .ok (.ifCond .lt 13, 3) := by decide +kernel
theorem dX1_paired_18 : decode cX1_paired 18 = .ok (.iload_n 2, 1) := by decide +kernel
theorem dX1_paired_19 : decode cX1_paired 19 = .ok (.aload_n 0, 1) := by decide +kernel
theorem dX1_paired_20 : decode cX1_paired 20 = .ok (.getfield 13, 3) := by decide +kernel
theorem dX1_paired_23 : decode cX1_paired 23 = .ok (.iconst 1, 1) := by decide +kernel
theorem dX1_paired_24 : decode cX1_paired 24 = .ok (.iaload, 1) := by decide +kernel
theorem dX1_paired_25 : decode cX1_paired 25 = .ok (.if_icmp .lt 5, 3) := by decide +kernel
theorem dX1_paired_28 : decode cX1_paired 28 = .ok (.iconst 0, 1) := by decide +kernel
theorem dX1_paired_29 : decode cX1_paired 29 = .ok (.ireturn, 1) := by decide +kernel
theorem dX1_paired_30 : decode cX1_paired 30 = .ok (.aload_n 0, 1) := by decide +kernel
theorem dX1_paired_31 : decode cX1_paired 31 = .ok (.iload_n 1, 1) := by decide +kernel
theorem dX1_paired_32 : decode cX1_paired 32 = .ok (.iload_n 2, 1) := by decide +kernel
theorem dX1_paired_33 : decode cX1_paired 33 = .ok (.iconst 0, 1) := by decide +kernel
theorem dX1_paired_34 : decode cX1_paired 34 = .ok (.invokevirtual 49, 3) := by decide +kernel
theorem dX1_paired_37 : decode cX1_paired 37 = .ok (.aload_n 0, 1) := by decide +kernel
theorem dX1_paired_38 : decode cX1_paired 38 = .ok (.getfield 29, 3) := by decide +kernel
theorem dX1_paired_41 : decode cX1_paired 41 = .ok (.iconst 0, 1) := by decide +kernel
theorem dX1_paired_42 : decode cX1_paired 42 = .ok (.iaload, 1) := by decide +kernel
theorem dX1_paired_43 : decode cX1_paired 43 = .ok (.istore_n 3, 1) := by decide +kernel
theorem dX1_paired_44 : decode cX1_paired 44 = .ok (.aload_n 0, 1) := by decide +kernel
theorem dX1_paired_45 : decode cX1_paired 45 = .ok (.invokevirtual 56, 3) := by decide +kernel
theorem dX1_paired_48 : decode cX1_paired 48 = .ok (.istore 4, 2) := by decide +kernel
theorem dX1_paired_50 : decode cX1_paired 50 = .ok (.iload_n 3, 1) := by decide +kernel
theorem dX1_paired_51 : decode cX1_paired 51 = .ok (.aload_n 0, 1) := by decide +kernel
theorem dX1_paired_52 : decode cX1_paired 52 = .ok (.iload_n 1, 1) := by decide +kernel
theorem dX1_paired_53 : decode cX1_paired 53 = .ok (.iload_n 2, 1) := by decide +kernel
theorem dX1_paired_54 : decode cX1_paired 54 = .ok (.invokevirtual 41, 3) := by decide +kernel
theorem dX1_paired_57 : decode cX1_paired 57 = .ok (.iadd, 1) := by decide +kernel
theorem dX1_paired_58 : decode cX1_paired 58 = .ok (.aload_n 0, 1) := by decide +kernel
theorem dX1_paired_59 : decode cX1_paired 59 = .ok (.getfield 29, 3) := by decide +kernel
theorem dX1_paired_62 : decode cX1_paired 62 = .ok (.iload_n 1, 1) := by decide +kernel
theorem dX1_paired_63 : decode cX1_paired 63 = .ok (.iconst 1, 1) := by decide +kernel
theorem dX1_paired_64 : decode cX1_paired 64 = .ok (.iadd, 1) := by decide +kernel
theorem dX1_paired_65 : decode cX1_paired 65 = .ok (.bipush 11, 2) := by decide +kernel
theorem dX1_paired_67 : decode cX1_paired 67 = .ok (.imul, 1) := by decide +kernel
theorem dX1_paired_68 : decode cX1_paired 68 = .ok (.iload_n 2, 1) := by decide +kernel
theorem dX1_paired_69 : decode cX1_paired 69 = .ok (.iadd, 1) := by decide +kernel
theorem dX1_paired_70 : decode cX1_paired 70 = .ok (.iconst 1, 1) := by decide +kernel
theorem dX1_paired_71 : decode cX1_paired 71 = .ok (.iadd, 1) := by decide +kernel
theorem dX1_paired_72 : decode cX1_paired 72 = .ok (.iconst 3, 1) := by decide +kernel
theorem dX1_paired_73 : decode cX1_paired 73 = .ok (.imul, 1) := by decide +kernel
theorem dX1_paired_74 : decode cX1_paired 74 = .ok (.iaload, 1) := by decide +kernel
theorem dX1_paired_75 : decode cX1_paired 75 = .ok (.iadd, 1) := by decide +kernel
theorem dX1_paired_76 : decode cX1_paired 76 = .ok (.iload 4, 2) := by decide +kernel
theorem dX1_paired_78 : decode cX1_paired 78 = .ok (.if_icmp .ne 7, 3) := by decide +kernel
theorem dX1_paired_81 : decode cX1_paired 81 = .ok (.iconst 1, 1) := by decide +kernel
theorem dX1_paired_82 : decode cX1_paired 82 = .ok (.goto 4, 3) := by decide +kernel
theorem dX1_paired_85 : decode cX1_paired 85 = .ok (.iconst 0, 1) := by decide +kernel
theorem dX1_paired_86 : decode cX1_paired 86 = .ok (.ireturn, 1) := by decide +kernel
end
section
set_option maxRecDepth 100000
/-! the law's own entry -/
abbrev cL_law : ByteArray := code
theorem dL_law_0 : decode cL_law 0 = .ok (.new 7, 3) := by decide +kernel
theorem dL_law_3 : decode cL_law 3 = .ok (.dup, 1) := by decide +kernel
theorem dL_law_4 : decode cL_law 4 = .ok (.invokespecial 9, 3) := by decide +kernel
theorem dL_law_7 : decode cL_law 7 = .ok (.astore_n 1, 1) := by decide +kernel
theorem dL_law_8 : decode cL_law 8 = .ok (.new 10, 3) := by decide +kernel
theorem dL_law_11 : decode cL_law 11 = .ok (.dup, 1) := by decide +kernel
theorem dL_law_12 : decode cL_law 12 = .ok (.invokespecial 12, 3) := by decide +kernel
theorem dL_law_15 : decode cL_law 15 = .ok (.astore_n 2, 1) := by decide +kernel
theorem dL_law_16 : decode cL_law 16 = .ok (.iconst 0, 1) := by decide +kernel
theorem dL_law_17 : decode cL_law 17 = .ok (.istore_n 3, 1) := by decide +kernel
theorem dL_law_18 : decode cL_law 18 = .ok (.iload_n 3, 1) := by decide +kernel
theorem dL_law_19 : decode cL_law 19 = .ok (.aload_n 0, 1) := by decide +kernel
theorem dL_law_20 : decode cL_law 20 = .ok (.arraylength, 1) := by decide +kernel
theorem dL_law_21 : decode cL_law 21 = .ok (.iconst 5, 1) := by decide +kernel
theorem dL_law_22 : decode cL_law 22 = .ok (.isub, 1) := by decide +kernel
theorem dL_law_23 : decode cL_law 23 = .ok (.if_icmp .gt 318, 3) := by decide +kernel
theorem dL_law_26 : decode cL_law 26 = .ok (.aload_n 0, 1) := by decide +kernel
theorem dL_law_27 : decode cL_law 27 = .ok (.iload_n 3, 1) := by decide +kernel
theorem dL_law_28 : decode cL_law 28 = .ok (.iaload, 1) := by decide +kernel
theorem dL_law_29 : decode cL_law 29 = .ok (.bipush 15, 2) := by decide +kernel
theorem dL_law_31 : decode cL_law 31 = .ok (.iand, 1) := by decide +kernel
theorem dL_law_32 : decode cL_law 32 = .ok (.tableswitch 303 0 10 #[60, 93, 116, 169, 182, 195, 218, 231, 244, 257, 270], 60) := by decide +kernel
theorem dL_law_92 : decode cL_law 92 = .ok (.aload_n 1, 1) := by decide +kernel
theorem dL_law_93 : decode cL_law 93 = .ok (.aload_n 0, 1) := by decide +kernel
theorem dL_law_94 : decode cL_law 94 = .ok (.iload_n 3, 1) := by decide +kernel
theorem dL_law_95 : decode cL_law 95 = .ok (.iconst 1, 1) := by decide +kernel
theorem dL_law_96 : decode cL_law 96 = .ok (.iadd, 1) := by decide +kernel
theorem dL_law_97 : decode cL_law 97 = .ok (.iaload, 1) := by decide +kernel
theorem dL_law_98 : decode cL_law 98 = .ok (.aload_n 0, 1) := by decide +kernel
theorem dL_law_99 : decode cL_law 99 = .ok (.iload_n 3, 1) := by decide +kernel
theorem dL_law_100 : decode cL_law 100 = .ok (.iconst 2, 1) := by decide +kernel
theorem dL_law_101 : decode cL_law 101 = .ok (.iadd, 1) := by decide +kernel
theorem dL_law_102 : decode cL_law 102 = .ok (.iaload, 1) := by decide +kernel
theorem dL_law_103 : decode cL_law 103 = .ok (.invokevirtual 13, 3) := by decide +kernel
theorem dL_law_106 : decode cL_law 106 = .ok (.aload_n 2, 1) := by decide +kernel
theorem dL_law_107 : decode cL_law 107 = .ok (.aload_n 0, 1) := by decide +kernel
theorem dL_law_108 : decode cL_law 108 = .ok (.iload_n 3, 1) := by decide +kernel
theorem dL_law_109 : decode cL_law 109 = .ok (.iconst 1, 1) := by decide +kernel
theorem dL_law_110 : decode cL_law 110 = .ok (.iadd, 1) := by decide +kernel
theorem dL_law_111 : decode cL_law 111 = .ok (.iaload, 1) := by decide +kernel
theorem dL_law_112 : decode cL_law 112 = .ok (.aload_n 0, 1) := by decide +kernel
theorem dL_law_113 : decode cL_law 113 = .ok (.iload_n 3, 1) := by decide +kernel
theorem dL_law_114 : decode cL_law 114 = .ok (.iconst 2, 1) := by decide +kernel
theorem dL_law_115 : decode cL_law 115 = .ok (.iadd, 1) := by decide +kernel
theorem dL_law_116 : decode cL_law 116 = .ok (.iaload, 1) := by decide +kernel
theorem dL_law_117 : decode cL_law 117 = .ok (.invokevirtual 17, 3) := by decide +kernel
theorem dL_law_120 : decode cL_law 120 = .ok (.if_icmp .eq 215, 3) := by decide +kernel
theorem dL_law_123 : decode cL_law 123 = .ok (.iconst 0, 1) := by decide +kernel
theorem dL_law_124 : decode cL_law 124 = .ok (.ireturn, 1) := by decide +kernel
theorem dL_law_125 : decode cL_law 125 = .ok (.aload_n 1, 1) := by decide +kernel
theorem dL_law_126 : decode cL_law 126 = .ok (.aload_n 0, 1) := by decide +kernel
theorem dL_law_127 : decode cL_law 127 = .ok (.iload_n 3, 1) := by decide +kernel
theorem dL_law_128 : decode cL_law 128 = .ok (.iconst 1, 1) := by decide +kernel
theorem dL_law_129 : decode cL_law 129 = .ok (.iadd, 1) := by decide +kernel
theorem dL_law_130 : decode cL_law 130 = .ok (.iaload, 1) := by decide +kernel
theorem dL_law_131 : decode cL_law 131 = .ok (.invokevirtual 18, 3) := by decide +kernel
theorem dL_law_134 : decode cL_law 134 = .ok (.aload_n 2, 1) := by decide +kernel
theorem dL_law_135 : decode cL_law 135 = .ok (.aload_n 0, 1) := by decide +kernel
theorem dL_law_136 : decode cL_law 136 = .ok (.iload_n 3, 1) := by decide +kernel
theorem dL_law_137 : decode cL_law 137 = .ok (.iconst 1, 1) := by decide +kernel
theorem dL_law_138 : decode cL_law 138 = .ok (.iadd, 1) := by decide +kernel
theorem dL_law_139 : decode cL_law 139 = .ok (.iaload, 1) := by decide +kernel
theorem dL_law_140 : decode cL_law 140 = .ok (.invokevirtual 22, 3) := by decide +kernel
theorem dL_law_143 : decode cL_law 143 = .ok (.if_icmp .eq 192, 3) := by decide +kernel
theorem dL_law_146 : decode cL_law 146 = .ok (.iconst 0, 1) := by decide +kernel
theorem dL_law_147 : decode cL_law 147 = .ok (.ireturn, 1) := by decide +kernel
theorem dL_law_148 : decode cL_law 148 = .ok (.aload_n 1, 1) := by decide +kernel
theorem dL_law_149 : decode cL_law 149 = .ok (.aload_n 0, 1) := by decide +kernel
theorem dL_law_150 : decode cL_law 150 = .ok (.iload_n 3, 1) := by decide +kernel
theorem dL_law_151 : decode cL_law 151 = .ok (.iconst 1, 1) := by decide +kernel
theorem dL_law_152 : decode cL_law 152 = .ok (.iadd, 1) := by decide +kernel
theorem dL_law_153 : decode cL_law 153 = .ok (.iaload, 1) := by decide +kernel
theorem dL_law_154 : decode cL_law 154 = .ok (.aload_n 0, 1) := by decide +kernel
theorem dL_law_155 : decode cL_law 155 = .ok (.iload_n 3, 1) := by decide +kernel
theorem dL_law_156 : decode cL_law 156 = .ok (.iconst 2, 1) := by decide +kernel
theorem dL_law_157 : decode cL_law 157 = .ok (.iadd, 1) := by decide +kernel
theorem dL_law_158 : decode cL_law 158 = .ok (.iaload, 1) := by decide +kernel
theorem dL_law_159 : decode cL_law 159 = .ok (.aload_n 0, 1) := by decide +kernel
theorem dL_law_160 : decode cL_law 160 = .ok (.iload_n 3, 1) := by decide +kernel
theorem dL_law_161 : decode cL_law 161 = .ok (.iconst 3, 1) := by decide +kernel
theorem dL_law_162 : decode cL_law 162 = .ok (.iadd, 1) := by decide +kernel
theorem dL_law_163 : decode cL_law 163 = .ok (.iaload, 1) := by decide +kernel
theorem dL_law_164 : decode cL_law 164 = .ok (.aload_n 0, 1) := by decide +kernel
theorem dL_law_165 : decode cL_law 165 = .ok (.iload_n 3, 1) := by decide +kernel
theorem dL_law_166 : decode cL_law 166 = .ok (.iconst 4, 1) := by decide +kernel
theorem dL_law_167 : decode cL_law 167 = .ok (.iadd, 1) := by decide +kernel
theorem dL_law_168 : decode cL_law 168 = .ok (.iaload, 1) := by decide +kernel
theorem dL_law_169 : decode cL_law 169 = .ok (.invokevirtual 23, 3) := by decide +kernel
theorem dL_law_172 : decode cL_law 172 = .ok (.aload_n 2, 1) := by decide +kernel
theorem dL_law_173 : decode cL_law 173 = .ok (.aload_n 0, 1) := by decide +kernel
theorem dL_law_174 : decode cL_law 174 = .ok (.iload_n 3, 1) := by decide +kernel
theorem dL_law_175 : decode cL_law 175 = .ok (.iconst 1, 1) := by decide +kernel
theorem dL_law_176 : decode cL_law 176 = .ok (.iadd, 1) := by decide +kernel
theorem dL_law_177 : decode cL_law 177 = .ok (.iaload, 1) := by decide +kernel
theorem dL_law_178 : decode cL_law 178 = .ok (.aload_n 0, 1) := by decide +kernel
theorem dL_law_179 : decode cL_law 179 = .ok (.iload_n 3, 1) := by decide +kernel
theorem dL_law_180 : decode cL_law 180 = .ok (.iconst 2, 1) := by decide +kernel
theorem dL_law_181 : decode cL_law 181 = .ok (.iadd, 1) := by decide +kernel
theorem dL_law_182 : decode cL_law 182 = .ok (.iaload, 1) := by decide +kernel
theorem dL_law_183 : decode cL_law 183 = .ok (.aload_n 0, 1) := by decide +kernel
theorem dL_law_184 : decode cL_law 184 = .ok (.iload_n 3, 1) := by decide +kernel
theorem dL_law_185 : decode cL_law 185 = .ok (.iconst 3, 1) := by decide +kernel
theorem dL_law_186 : decode cL_law 186 = .ok (.iadd, 1) := by decide +kernel
theorem dL_law_187 : decode cL_law 187 = .ok (.iaload, 1) := by decide +kernel
theorem dL_law_188 : decode cL_law 188 = .ok (.aload_n 0, 1) := by decide +kernel
theorem dL_law_189 : decode cL_law 189 = .ok (.iload_n 3, 1) := by decide +kernel
theorem dL_law_190 : decode cL_law 190 = .ok (.iconst 4, 1) := by decide +kernel
theorem dL_law_191 : decode cL_law 191 = .ok (.iadd, 1) := by decide +kernel
theorem dL_law_192 : decode cL_law 192 = .ok (.iaload, 1) := by decide +kernel
theorem dL_law_193 : decode cL_law 193 = .ok (.invokevirtual 27, 3) := by decide +kernel
theorem dL_law_196 : decode cL_law 196 = .ok (.if_icmp .eq 139, 3) := by decide +kernel
theorem dL_law_199 : decode cL_law 199 = .ok (.iconst 0, 1) := by decide +kernel
theorem dL_law_200 : decode cL_law 200 = .ok (.ireturn, 1) := by decide +kernel
theorem dL_law_201 : decode cL_law 201 = .ok (.aload_n 1, 1) := by decide +kernel
theorem dL_law_202 : decode cL_law 202 = .ok (.invokevirtual 28, 3) := by decide +kernel
theorem dL_law_205 : decode cL_law 205 = .ok (.aload_n 2, 1) := by decide +kernel
theorem dL_law_206 : decode cL_law 206 = .ok (.invokevirtual 32, 3) := by decide +kernel
theorem dL_law_209 : decode cL_law 209 = .ok (.if_icmp .eq 126, 3) := by decide +kernel
theorem dL_law_212 : decode cL_law 212 = .ok (.iconst 0, 1) := by decide +kernel
theorem dL_law_213 : decode cL_law 213 = .ok (.ireturn, 1) := by decide +kernel
theorem dL_law_214 : decode cL_law 214 = .ok (.aload_n 1, 1) := by decide +kernel
theorem dL_law_215 : decode cL_law 215 = .ok (.invokevirtual 33, 3) := by decide +kernel
theorem dL_law_218 : decode cL_law 218 = .ok (.aload_n 2, 1) := by decide +kernel
theorem dL_law_219 : decode cL_law 219 = .ok (.invokevirtual 36, 3) := by decide +kernel
theorem dL_law_222 : decode cL_law 222 = .ok (.if_icmp .eq 113, 3) := by decide +kernel
theorem dL_law_225 : decode cL_law 225 = .ok (.iconst 0, 1) := by decide +kernel
theorem dL_law_226 : decode cL_law 226 = .ok (.ireturn, 1) := by decide +kernel
theorem dL_law_227 : decode cL_law 227 = .ok (.aload_n 1, 1) := by decide +kernel
theorem dL_law_228 : decode cL_law 228 = .ok (.aload_n 0, 1) := by decide +kernel
theorem dL_law_229 : decode cL_law 229 = .ok (.iload_n 3, 1) := by decide +kernel
theorem dL_law_230 : decode cL_law 230 = .ok (.iconst 1, 1) := by decide +kernel
theorem dL_law_231 : decode cL_law 231 = .ok (.iadd, 1) := by decide +kernel
theorem dL_law_232 : decode cL_law 232 = .ok (.iaload, 1) := by decide +kernel
theorem dL_law_233 : decode cL_law 233 = .ok (.invokevirtual 37, 3) := by decide +kernel
theorem dL_law_236 : decode cL_law 236 = .ok (.aload_n 2, 1) := by decide +kernel
theorem dL_law_237 : decode cL_law 237 = .ok (.aload_n 0, 1) := by decide +kernel
theorem dL_law_238 : decode cL_law 238 = .ok (.iload_n 3, 1) := by decide +kernel
theorem dL_law_239 : decode cL_law 239 = .ok (.iconst 1, 1) := by decide +kernel
theorem dL_law_240 : decode cL_law 240 = .ok (.iadd, 1) := by decide +kernel
theorem dL_law_241 : decode cL_law 241 = .ok (.iaload, 1) := by decide +kernel
theorem dL_law_242 : decode cL_law 242 = .ok (.invokevirtual 40, 3) := by decide +kernel
theorem dL_law_245 : decode cL_law 245 = .ok (.if_icmp .eq 90, 3) := by decide +kernel
theorem dL_law_248 : decode cL_law 248 = .ok (.iconst 0, 1) := by decide +kernel
theorem dL_law_249 : decode cL_law 249 = .ok (.ireturn, 1) := by decide +kernel
theorem dL_law_250 : decode cL_law 250 = .ok (.aload_n 1, 1) := by decide +kernel
theorem dL_law_251 : decode cL_law 251 = .ok (.invokevirtual 41, 3) := by decide +kernel
theorem dL_law_254 : decode cL_law 254 = .ok (.aload_n 2, 1) := by decide +kernel
theorem dL_law_255 : decode cL_law 255 = .ok (.invokevirtual 44, 3) := by decide +kernel
theorem dL_law_258 : decode cL_law 258 = .ok (.if_icmp .eq 77, 3) := by decide +kernel
theorem dL_law_261 : decode cL_law 261 = .ok (.iconst 0, 1) := by decide +kernel
theorem dL_law_262 : decode cL_law 262 = .ok (.ireturn, 1) := by decide +kernel
theorem dL_law_263 : decode cL_law 263 = .ok (.aload_n 1, 1) := by decide +kernel
theorem dL_law_264 : decode cL_law 264 = .ok (.invokevirtual 45, 3) := by decide +kernel
theorem dL_law_267 : decode cL_law 267 = .ok (.aload_n 2, 1) := by decide +kernel
theorem dL_law_268 : decode cL_law 268 = .ok (.invokevirtual 48, 3) := by decide +kernel
theorem dL_law_271 : decode cL_law 271 = .ok (.if_icmp .eq 64, 3) := by decide +kernel
theorem dL_law_274 : decode cL_law 274 = .ok (.iconst 0, 1) := by decide +kernel
theorem dL_law_275 : decode cL_law 275 = .ok (.ireturn, 1) := by decide +kernel
theorem dL_law_276 : decode cL_law 276 = .ok (.aload_n 1, 1) := by decide +kernel
theorem dL_law_277 : decode cL_law 277 = .ok (.invokevirtual 49, 3) := by decide +kernel
theorem dL_law_280 : decode cL_law 280 = .ok (.aload_n 2, 1) := by decide +kernel
theorem dL_law_281 : decode cL_law 281 = .ok (.invokevirtual 52, 3) := by decide +kernel
theorem dL_law_284 : decode cL_law 284 = .ok (.if_icmp .eq 51, 3) := by decide +kernel
theorem dL_law_287 : decode cL_law 287 = .ok (.iconst 0, 1) := by decide +kernel
theorem dL_law_288 : decode cL_law 288 = .ok (.ireturn, 1) := by decide +kernel
theorem dL_law_289 : decode cL_law 289 = .ok (.aload_n 1, 1) := by decide +kernel
theorem dL_law_290 : decode cL_law 290 = .ok (.invokevirtual 53, 3) := by decide +kernel
theorem dL_law_293 : decode cL_law 293 = .ok (.aload_n 2, 1) := by decide +kernel
theorem dL_law_294 : decode cL_law 294 = .ok (.invokevirtual 56, 3) := by decide +kernel
theorem dL_law_297 : decode cL_law 297 = .ok (.if_icmp .eq 38, 3) := by decide +kernel
theorem dL_law_300 : decode cL_law 300 = .ok (.iconst 0, 1) := by decide +kernel
theorem dL_law_301 : decode cL_law 301 = .ok (.ireturn, 1) := by decide +kernel
theorem dL_law_302 : decode cL_law 302 = .ok (.aload_n 1, 1) := by decide +kernel
theorem dL_law_303 : decode cL_law 303 = .ok (.aload_n 0, 1) := by decide +kernel
theorem dL_law_304 : decode cL_law 304 = .ok (.iload_n 3, 1) := by decide +kernel
theorem dL_law_305 : decode cL_law 305 = .ok (.iconst 1, 1) := by decide +kernel
theorem dL_law_306 : decode cL_law 306 = .ok (.iadd, 1) := by decide +kernel
theorem dL_law_307 : decode cL_law 307 = .ok (.iaload, 1) := by decide +kernel
theorem dL_law_308 : decode cL_law 308 = .ok (.aload_n 0, 1) := by decide +kernel
theorem dL_law_309 : decode cL_law 309 = .ok (.iload_n 3, 1) := by decide +kernel
theorem dL_law_310 : decode cL_law 310 = .ok (.iconst 2, 1) := by decide +kernel
theorem dL_law_311 : decode cL_law 311 = .ok (.iadd, 1) := by decide +kernel
theorem dL_law_312 : decode cL_law 312 = .ok (.iaload, 1) := by decide +kernel
theorem dL_law_313 : decode cL_law 313 = .ok (.invokevirtual 57, 3) := by decide +kernel
theorem dL_law_316 : decode cL_law 316 = .ok (.aload_n 2, 1) := by decide +kernel
theorem dL_law_317 : decode cL_law 317 = .ok (.aload_n 0, 1) := by decide +kernel
theorem dL_law_318 : decode cL_law 318 = .ok (.iload_n 3, 1) := by decide +kernel
theorem dL_law_319 : decode cL_law 319 = .ok (.iconst 1, 1) := by decide +kernel
theorem dL_law_320 : decode cL_law 320 = .ok (.iadd, 1) := by decide +kernel
theorem dL_law_321 : decode cL_law 321 = .ok (.iaload, 1) := by decide +kernel
theorem dL_law_322 : decode cL_law 322 = .ok (.aload_n 0, 1) := by decide +kernel
theorem dL_law_323 : decode cL_law 323 = .ok (.iload_n 3, 1) := by decide +kernel
theorem dL_law_324 : decode cL_law 324 = .ok (.iconst 2, 1) := by decide +kernel
theorem dL_law_325 : decode cL_law 325 = .ok (.iadd, 1) := by decide +kernel
theorem dL_law_326 : decode cL_law 326 = .ok (.iaload, 1) := by decide +kernel
theorem dL_law_327 : decode cL_law 327 = .ok (.invokevirtual 61, 3) := by decide +kernel
theorem dL_law_330 : decode cL_law 330 = .ok (.if_icmp .eq 5, 3) := by decide +kernel
theorem dL_law_333 : decode cL_law 333 = .ok (.iconst 0, 1) := by decide +kernel
theorem dL_law_334 : decode cL_law 334 = .ok (.ireturn, 1) := by decide +kernel
theorem dL_law_335 : decode cL_law 335 = .ok (.iinc 3 5, 3) := by decide +kernel
theorem dL_law_338 : decode cL_law 338 = .ok (.goto (-320), 3) := by decide +kernel
theorem dL_law_341 : decode cL_law 341 = .ok (.iconst 1, 1) := by decide +kernel
theorem dL_law_342 : decode cL_law 342 = .ok (.ireturn, 1) := by decide +kernel
end
section
/-! OWN ROWS: the kit's rows over numbers nI; contracts of methods that keep one world; how they begin, end, are called -/
section TWA
theorem tw_upd_same {f : Nat → Int32} {i : Nat} {x : Int32} (h : f i = x) : upd f i x = f := by
  funext k
  by_cases e : k = i
  · subst e
    rw [pk_us, h]
  · rw [pk_un e]
theorem tw_upd_twice (f : Nat → Int32) (i : Nat) (x y : Int32) : upd (upd f i x) i y = upd f i y := by
  funext k
  by_cases e : k = i
  · subst e
    rw [pk_us, pk_us]
  · rw [pk_un e, pk_un e, pk_un e]
theorem tw_byte {n : Nat} (h : n < 128) : vp_nar .byte (nI n) = nI n := by
  rw [vp_nar_byte]
  have : ∀ j : Fin 128, (nI j.val).toInt8.toInt32 = nI j.val := by decide +kernel
  exact this ⟨n, h⟩
theorem tw_byte2 {n : Nat} (h : n < 128) : (nI n).toInt8.toInt32 = nI n := by
  have : ∀ j : Fin 128, (nI j.val).toInt8.toInt32 = nI j.val := by decide +kernel
  exact this ⟨n, h⟩
end TWA
section TW
variable {p : Program} {l : Launch} {e : Env} {R : Room} {s : State} {m : MethodId} {args : Array Value} {below : List Frame} {meth : Method} {c : Code} {H : Heap} {locs : List Loc} {cells slots : Nat} {Q : State → Prop}
variable {cc : ByteArray} {pc : Nat} {ls : Array Slot} {rest : List Value}
/-- the top number told otherwise -/
theorem tw_top {x y : Int32} (h : x = y) (k : W p l e R s m args below meth c H locs cells slots Q (F0 m pc ls (.int y :: rest))) : W p l e R s m args below meth c H locs cells slots Q (F0 m pc ls (.int x :: rest)) := by
  rw [h]; exact k
theorem tw_iadd (hexec : p.tables.exec = Jvm.exec) (hb : c.code = cc) {x y : Nat} (hdg : decode cc pc = .ok (.iadd, 1)) (k : W p l e R s m args below meth c H locs cells slots Q (F0 m (pc + 1) ls (.int (nI (x + y)) :: rest))) : W p l e R s m args below meth c H locs cells slots Q (F0 m pc ls (.int (nI y) :: .int (nI x) :: rest)) :=
  lv_iadd hexec hb hdg (tw_top (nI_add x y) k)
theorem tw_isub (hexec : p.tables.exec = Jvm.exec) (hb : c.code = cc) {x y : Nat} (h : y ≤ x) (hdg : decode cc pc = .ok (.isub, 1)) (k : W p l e R s m args below meth c H locs cells slots Q (F0 m (pc + 1) ls (.int (nI (x - y)) :: rest))) : W p l e R s m args below meth c H locs cells slots Q (F0 m pc ls (.int (nI y) :: .int (nI x) :: rest)) :=
  lv_isub hexec hb hdg (tw_top (pk_sub h) k)
theorem tw_imul (hexec : p.tables.exec = Jvm.exec) (hb : c.code = cc) {x y : Nat} (hdg : decode cc pc = .ok (.imul, 1)) (k : W p l e R s m args below meth c H locs cells slots Q (F0 m (pc + 1) ls (.int (nI (x * y)) :: rest))) : W p l e R s m args below meth c H locs cells slots Q (F0 m pc ls (.int (nI y) :: .int (nI x) :: rest)) :=
  lv_imul hexec hb hdg (tw_top (pk_mul x y) k)
theorem tw_idiv (hexec : p.tables.exec = Jvm.exec) (hb : c.code = cc) {x y : Nat} (hx : x < 2 ^ 31) (h0 : 0 < y) (hy : y < 2 ^ 31) (hdg : decode cc pc = .ok (.idiv, 1)) (k : W p l e R s m args below meth c H locs cells slots Q (F0 m (pc + 1) ls (.int (nI (x / y)) :: rest))) : W p l e R s m args below meth c H locs cells slots Q (F0 m pc ls (.int (nI y) :: .int (nI x) :: rest)) :=
  lv_idiv hexec hb hdg (nI_ne0 h0 hy) (tw_top (pk_div hx h0 hy) k)
theorem tw_irem (hexec : p.tables.exec = Jvm.exec) (hb : c.code = cc) {x y : Nat} (hx : x < 2 ^ 31) (h0 : 0 < y) (hy : y < 2 ^ 31) (hdg : decode cc pc = .ok (.irem, 1)) (k : W p l e R s m args below meth c H locs cells slots Q (F0 m (pc + 1) ls (.int (nI (x % y)) :: rest))) : W p l e R s m args below meth c H locs cells slots Q (F0 m pc ls (.int (nI y) :: .int (nI x) :: rest)) :=
  lv_irem hexec hb hdg (nI_ne0 h0 hy) (tw_top (pk_rem hx h0 hy) k)
theorem tw_iinc (hexec : p.tables.exec = Jvm.exec) (hb : c.code = cc) {i nL k : Nat} {x : Nat} {lv lv' : List (Nat × Value)} (hdg : decode cc pc = .ok (.iinc i 1, 3)) (h : lv_has ls nL lv) (hk : lv[k]? = some (i, .int (nI x))) (hn : i < nL) (hl : (i, Value.int (nI (x + 1))) :: lv.filter (fun q => !(q.1 == i) && !(q.1 + 1 == i && q.2.category == 2)) = lv')
    (kk : ∀ ls' : Array Slot, lv_has ls' nL lv' → W p l e R s m args below meth c H locs cells slots Q (F0 m (pc + 3) ls' rest)) : W p l e R s m args below meth c H locs cells slots Q (F0 m pc ls rest) :=
  lv_iinc (v := nI (x + 1)) hexec hb hdg h hk (nI_1 x) hn hl kk
theorem tw_idec (hexec : p.tables.exec = Jvm.exec) (hb : c.code = cc) {i nL k : Nat} {x : Nat} {lv lv' : List (Nat × Value)} (hdg : decode cc pc = .ok (.iinc i (-1), 3)) (h : lv_has ls nL lv) (hk : lv[k]? = some (i, .int (nI x))) (hn : i < nL) (hl : (i, Value.int (nI x - 1)) :: lv.filter (fun q => !(q.1 == i) && !(q.1 + 1 == i && q.2.category == 2)) = lv')
    (kk : ∀ ls' : Array Slot, lv_has ls' nL lv' → W p l e R s m args below meth c H locs cells slots Q (F0 m (pc + 3) ls' rest)) : W p l e R s m args below meth c H locs cells slots Q (F0 m pc ls rest) :=
  lv_iinc (v := nI x - 1) hexec hb hdg h hk (by rw [Int32.sub_eq_add_neg]; rfl) hn hl kk
theorem tw_icmp_eq (hexec : p.tables.exec = Jvm.exec) (hb : c.code = cc) {x y : Nat} {off : Int} {tgt : Nat} (hx : x < 2 ^ 31) (hy : y < 2 ^ 31) (hdg : decode cc pc = .ok (.if_icmp .eq off, 3)) (ht : (pc : Int) + off = (tgt : Int))
    (kt : x = y → W p l e R s m args below meth c H locs cells slots Q (F0 m tgt ls rest)) (kf : x ≠ y → W p l e R s m args below meth c H locs cells slots Q (F0 m (pc + 3) ls rest)) : W p l e R s m args below meth c H locs cells slots Q (F0 m pc ls (.int (nI y) :: .int (nI x) :: rest)) :=
  lv_icmp_eq hexec hb hdg ht (fun q => kt ((nI_eq hx hy).mp q)) (fun q => kf (fun z => q ((nI_eq hx hy).mpr z)))
theorem tw_icmp_ne (hexec : p.tables.exec = Jvm.exec) (hb : c.code = cc) {x y : Nat} {off : Int} {tgt : Nat} (hx : x < 2 ^ 31) (hy : y < 2 ^ 31) (hdg : decode cc pc = .ok (.if_icmp .ne off, 3)) (ht : (pc : Int) + off = (tgt : Int))
    (kt : x ≠ y → W p l e R s m args below meth c H locs cells slots Q (F0 m tgt ls rest)) (kf : x = y → W p l e R s m args below meth c H locs cells slots Q (F0 m (pc + 3) ls rest)) : W p l e R s m args below meth c H locs cells slots Q (F0 m pc ls (.int (nI y) :: .int (nI x) :: rest)) :=
  lv_icmp_ne hexec hb hdg ht (fun q => kt (fun z => q ((nI_eq hx hy).mpr z))) (fun q => kf ((nI_eq hx hy).mp q))
theorem tw_icmp_lt (hexec : p.tables.exec = Jvm.exec) (hb : c.code = cc) {x y : Nat} {off : Int} {tgt : Nat} (hx : x < 2 ^ 31) (hy : y < 2 ^ 31) (hdg : decode cc pc = .ok (.if_icmp .lt off, 3)) (ht : (pc : Int) + off = (tgt : Int))
    (kt : x < y → W p l e R s m args below meth c H locs cells slots Q (F0 m tgt ls rest)) (kf : y ≤ x → W p l e R s m args below meth c H locs cells slots Q (F0 m (pc + 3) ls rest)) : W p l e R s m args below meth c H locs cells slots Q (F0 m pc ls (.int (nI y) :: .int (nI x) :: rest)) :=
  lv_icmp_lt hexec hb hdg ht (fun q => kt ((nI_ltI hx hy).mp q)) (fun q => kf (Nat.not_lt.mp fun z => q ((nI_ltI hx hy).mpr z)))
theorem tw_icmp_ge (hexec : p.tables.exec = Jvm.exec) (hb : c.code = cc) {x y : Nat} {off : Int} {tgt : Nat} (hx : x < 2 ^ 31) (hy : y < 2 ^ 31) (hdg : decode cc pc = .ok (.if_icmp .ge off, 3)) (ht : (pc : Int) + off = (tgt : Int))
    (kt : y ≤ x → W p l e R s m args below meth c H locs cells slots Q (F0 m tgt ls rest)) (kf : x < y → W p l e R s m args below meth c H locs cells slots Q (F0 m (pc + 3) ls rest)) : W p l e R s m args below meth c H locs cells slots Q (F0 m pc ls (.int (nI y) :: .int (nI x) :: rest)) :=
  lv_icmp_ge hexec hb hdg ht (fun q => kt ((nI_leI hy hx).mp q)) (fun q => kf (Nat.not_le.mp fun z => q ((nI_leI hy hx).mpr z)))
theorem tw_icmp_gt (hexec : p.tables.exec = Jvm.exec) (hb : c.code = cc) {x y : Nat} {off : Int} {tgt : Nat} (hx : x < 2 ^ 31) (hy : y < 2 ^ 31) (hdg : decode cc pc = .ok (.if_icmp .gt off, 3)) (ht : (pc : Int) + off = (tgt : Int))
    (kt : y < x → W p l e R s m args below meth c H locs cells slots Q (F0 m tgt ls rest)) (kf : x ≤ y → W p l e R s m args below meth c H locs cells slots Q (F0 m (pc + 3) ls rest)) : W p l e R s m args below meth c H locs cells slots Q (F0 m pc ls (.int (nI y) :: .int (nI x) :: rest)) :=
  lv_icmp_gt hexec hb hdg ht (fun q => kt ((nI_ltI hy hx).mp q)) (fun q => kf (Nat.not_lt.mp fun z => q ((nI_ltI hy hx).mpr z)))
theorem tw_icmp_le (hexec : p.tables.exec = Jvm.exec) (hb : c.code = cc) {x y : Nat} {off : Int} {tgt : Nat} (hx : x < 2 ^ 31) (hy : y < 2 ^ 31) (hdg : decode cc pc = .ok (.if_icmp .le off, 3)) (ht : (pc : Int) + off = (tgt : Int))
    (kt : x ≤ y → W p l e R s m args below meth c H locs cells slots Q (F0 m tgt ls rest)) (kf : y < x → W p l e R s m args below meth c H locs cells slots Q (F0 m (pc + 3) ls rest)) : W p l e R s m args below meth c H locs cells slots Q (F0 m pc ls (.int (nI y) :: .int (nI x) :: rest)) :=
  lv_icmp_le hexec hb hdg ht (fun q => kt ((nI_leI hx hy).mp q)) (fun q => kf (Nat.not_le.mp fun z => q ((nI_leI hx hy).mpr z)))
theorem tw_if_eq (hexec : p.tables.exec = Jvm.exec) (hb : c.code = cc) {x : Nat} {off : Int} {tgt : Nat} (hx : x < 2 ^ 31) (hdg : decode cc pc = .ok (.ifCond .eq off, 3)) (ht : (pc : Int) + off = (tgt : Int))
    (kt : x = 0 → W p l e R s m args below meth c H locs cells slots Q (F0 m tgt ls rest)) (kf : x ≠ 0 → W p l e R s m args below meth c H locs cells slots Q (F0 m (pc + 3) ls rest)) : W p l e R s m args below meth c H locs cells slots Q (F0 m pc ls (.int (nI x) :: rest)) :=
  lv_if_eq hexec hb hdg ht (fun q => kt ((nI_eq hx (by decide)).mp (q.trans nI_0.symm))) (fun q => kf (fun z => q (by rw [z]; exact nI_0)))
theorem tw_if_ne (hexec : p.tables.exec = Jvm.exec) (hb : c.code = cc) {x : Nat} {off : Int} {tgt : Nat} (hx : x < 2 ^ 31) (hdg : decode cc pc = .ok (.ifCond .ne off, 3)) (ht : (pc : Int) + off = (tgt : Int))
    (kt : x ≠ 0 → W p l e R s m args below meth c H locs cells slots Q (F0 m tgt ls rest)) (kf : x = 0 → W p l e R s m args below meth c H locs cells slots Q (F0 m (pc + 3) ls rest)) : W p l e R s m args below meth c H locs cells slots Q (F0 m pc ls (.int (nI x) :: rest)) :=
  lv_if_ne hexec hb hdg ht (fun q => kt (fun z => q (by rw [z]; exact nI_0))) (fun q => kf ((nI_eq hx (by decide)).mp (q.trans nI_0.symm)))
theorem tw_if_le (hexec : p.tables.exec = Jvm.exec) (hb : c.code = cc) {x : Nat} {off : Int} {tgt : Nat} (hx : x < 2 ^ 31) (hdg : decode cc pc = .ok (.ifCond .le off, 3)) (ht : (pc : Int) + off = (tgt : Int))
    (kt : x = 0 → W p l e R s m args below meth c H locs cells slots Q (F0 m tgt ls rest)) (kf : 0 < x → W p l e R s m args below meth c H locs cells slots Q (F0 m (pc + 3) ls rest)) : W p l e R s m args below meth c H locs cells slots Q (F0 m pc ls (.int (nI x) :: rest)) :=
  lv_if_le hexec hb hdg ht (fun q => kt (Nat.eq_zero_of_not_pos fun z => nI_nle z hx q)) (fun q => kf (Nat.pos_of_ne_zero fun z => q (by rw [z, nI_0]; decide)))
theorem tw_if_lt (hexec : p.tables.exec = Jvm.exec) (hb : c.code = cc) {x : Nat} {off : Int} {tgt : Nat} (hx : x < 2 ^ 31) (hdg : decode cc pc = .ok (.ifCond .lt off, 3)) (ht : (pc : Int) + off = (tgt : Int))
    (kf : W p l e R s m args below meth c H locs cells slots Q (F0 m (pc + 3) ls rest)) : W p l e R s m args below meth c H locs cells slots Q (F0 m pc ls (.int (nI x) :: rest)) :=
  lv_if_lt hexec hb hdg ht (fun q => absurd q (nI_pos hx)) (fun _ => kf)
theorem tw_if_ge (hexec : p.tables.exec = Jvm.exec) (hb : c.code = cc) {x : Nat} {off : Int} {tgt : Nat} (hx : x < 2 ^ 31) (hdg : decode cc pc = .ok (.ifCond .ge off, 3)) (ht : (pc : Int) + off = (tgt : Int))
    (kt : W p l e R s m args below meth c H locs cells slots Q (F0 m tgt ls rest)) : W p l e R s m args below meth c H locs cells slots Q (F0 m pc ls (.int (nI x) :: rest)) :=
  lv_if_ge hexec hb hdg ht (fun _ => kt) (fun q => absurd (nI_pos' hx) q)
end TW
section TWV
variable {p : Program} {l : Launch} {e : Env} {R : Room} {s : State} {m : MethodId} {args : Array Value} {below : List Frame} {meth : Method} {c : Code} {H H0 : Heap} {locs : List Loc} {cells slots : Nat} {Q : State → Prop}
variable {cc : ByteArray} {pc : Nat} {ls : Array Slot} {rest : List Value} {D : va_G} {cl : List vw_C} {tys : List (ClassId × FieldType)} {ws : va_W} {A : Nat → Prop} {a : Nat}
theorem tw_iald (hexec : p.tables.exec = Jvm.exec) (hb : c.code = cc) (hK : va_K D cl tys s) (hP : va_P D cl ws H) (q0 t0 : Nat) {cA : ClassId} {n : Nat} {f : Nat → Int32} (ha : ws[q0]? = some (a, .inl (cA, n, .inl f))) (ht : tys[t0]? = some (cA, .int)) {i : Nat} (hin : i < n) (hn : n < 2 ^ 31) (hdg : decode cc pc = .ok (.iaload, 1))
    (kk : W p l e R s m args below meth c H locs cells slots Q (F0 m (pc + 1) ls (.int (f i) :: rest))) : W p l e R s m args below meth c H locs cells slots Q (F0 m pc ls (.int (nI i) :: .ref a :: rest)) :=
  va_iald hexec hb hK hP q0 t0 ha ht (vp_in_nI hin hn) hdg (by rw [nI_clamp (Nat.lt_trans hin hn)]; exact kk)
theorem tw_bald (hexec : p.tables.exec = Jvm.exec) (hb : c.code = cc) (hK : va_K D cl tys s) (hP : va_P D cl ws H) (q0 t0 : Nat) {cA : ClassId} {n : Nat} {f : Nat → Int32} (ha : ws[q0]? = some (a, .inl (cA, n, .inl f))) (ht : tys[t0]? = some (cA, .byte)) {i : Nat} (hin : i < n) (hn : n < 2 ^ 31) (hdg : decode cc pc = .ok (.baload, 1))
    (kk : W p l e R s m args below meth c H locs cells slots Q (F0 m (pc + 1) ls (.int (f i) :: rest))) : W p l e R s m args below meth c H locs cells slots Q (F0 m pc ls (.int (nI i) :: .ref a :: rest)) :=
  va_bald hexec hb hK hP q0 t0 ha ht (vp_in_nI hin hn) hdg (by rw [nI_clamp (Nat.lt_trans hin hn)]; exact kk)
theorem tw_iast (hexec : p.tables.exec = Jvm.exec) (hb : c.code = cc) (hK : va_K D cl tys s) (hP : va_P D cl ws H) (hD : va_D A ws) (hS : va_S A H0 H locs) (q0 t0 : Nat) {cA : ClassId} {n : Nat} {f : Nat → Int32} (ha : ws[q0]? = some (a, .inl (cA, n, .inl f))) (ht : tys[t0]? = some (cA, .int)) {i : Nat} {x : Int32} (hin : i < n) (hn : n < 2 ^ 31) (hdg : decode cc pc = .ok (.iastore, 1))
    (kk : ∀ (H1 : Heap) (locs1 : List Loc), va_P D cl (ws.set q0 (a, .inl (cA, n, .inl (upd f i x)))) H1 → va_D A (ws.set q0 (a, .inl (cA, n, .inl (upd f i x)))) → va_S A H0 H1 locs1 → W p l e R s m args below meth c H1 locs1 cells slots Q (F0 m (pc + 1) ls rest)) : W p l e R s m args below meth c H locs cells slots Q (F0 m pc ls (.int x :: .int (nI i) :: .ref a :: rest)) :=
  va_iast hexec hb hK hP hD hS q0 t0 ha ht (vp_in_nI hin hn) hdg (by rw [nI_clamp (Nat.lt_trans hin hn)]; exact kk)
theorem tw_bast (hexec : p.tables.exec = Jvm.exec) (hb : c.code = cc) (hK : va_K D cl tys s) (hP : va_P D cl ws H) (hD : va_D A ws) (hS : va_S A H0 H locs) (q0 t0 : Nat) {cA : ClassId} {n : Nat} {f : Nat → Int32} (ha : ws[q0]? = some (a, .inl (cA, n, .inl f))) (ht : tys[t0]? = some (cA, .byte)) {i : Nat} {x y : Int32} (hin : i < n) (hn : n < 2 ^ 31) (hy : vp_nar .byte x = y) (hdg : decode cc pc = .ok (.bastore, 1))
    (kk : ∀ (H1 : Heap) (locs1 : List Loc), va_P D cl (ws.set q0 (a, .inl (cA, n, .inl (upd f i y)))) H1 → va_D A (ws.set q0 (a, .inl (cA, n, .inl (upd f i y)))) → va_S A H0 H1 locs1 → W p l e R s m args below meth c H1 locs1 cells slots Q (F0 m (pc + 1) ls rest)) : W p l e R s m args below meth c H locs cells slots Q (F0 m pc ls (.int x :: .int (nI i) :: .ref a :: rest)) :=
  va_bast hexec hb hK hP hD hS q0 t0 ha ht (vp_in_nI hin hn) hdg (by rw [nI_clamp (Nat.lt_trans hin hn), hy]; exact kk)
end TWV
/-- a contract's end: the answer r, the world w' -/
abbrev tw_Qi (D : va_G) (cl : List vw_C) (tys : List (ClassId × FieldType)) (r : Int32) (w' : va_W) (A : Nat → Prop) : Array Value → State → Outcome → State → Prop :=
  va_Qi (fun (x : Int32) (_ : Unit) => x = r) (fun (_ : Unit) t => va_P D cl w' t.heap ∧ va_K D cl tys t ∧ va_D A w') A
abbrev tw_Qv (D : va_G) (cl : List vw_C) (tys : List (ClassId × FieldType)) (w' : va_W) (A : Nat → Prop) : Array Value → State → Outcome → State → Prop :=
  va_Qv (fun (_ : Unit) => True) (fun (_ : Unit) t => va_P D cl w' t.heap ∧ va_K D cl tys t ∧ va_D A w') A
abbrev tw_pre (D : va_G) (cl : List vw_C) (tys : List (ClassId × FieldType)) (w : va_W) (sz : Nat) : State → Prop := fun U => U.heap.size = sz ∧ va_P D cl w U.heap ∧ va_K D cl tys U ∧ va_D (fun _ => True) w
abbrev tw_rm (fr lo : Nat) : Room := { frames := fr, cells := 0, slots := 0, locals := lo }
/-- METHOD y, from the world w and the arguments av, answers r and leaves the world w' -/
def Ci (l : Launch) (y : MethodName) (cc : ByteArray) (maxL : Nat) (ret : FieldType) (fr lo : Nat) (D : va_G) (cl : List vw_C) (tys : List (ClassId × FieldType)) (av : List Value) (w : va_W) (r : Int32) (w' : va_W) : Prop :=
  ∀ sz : Nat, Met l y (ws_ y cc maxL (some ret)) (tw_rm fr lo) (va_Pc av (tw_pre D cl tys w sz)) (tw_Qi D cl tys r w' (va_A w sz)) 0 0 (va_A w sz)
def Cv (l : Launch) (y : MethodName) (cc : ByteArray) (maxL : Nat) (fr lo : Nat) (D : va_G) (cl : List vw_C) (tys : List (ClassId × FieldType)) (av : List Value) (w w' : va_W) : Prop :=
  ∀ sz : Nat, Met l y (ws_ y cc maxL none) (tw_rm fr lo) (va_Pc av (tw_pre D cl tys w sz)) (tw_Qv D cl tys w' (va_A w sz)) 0 0 (va_A w sz)
section TWC
variable {l : Launch} {y : MethodName} {cc : ByteArray} {maxL : Nat} {fr lo : Nat} {D : va_G} {cl : List vw_C} {tys : List (ClassId × FieldType)} {av : List Value} {w w' : va_W}
theorem Ci.of {ret : FieldType} {r : Int32} (hy : plainName y.cls = true) (hlen : (lg_sl av).length ≤ maxL)
    (body : ∀ (p : Program) (e : Env) (s : State) (m : MethodId) (below : List Frame) (meth : Method) (c : Code) (A : Nat → Prop) (ls : Array Slot), p.tables.exec = Jvm.exec → c.code = cc → meth.sig.returnType = some ret → meth.locks = false → c.maxLocals = maxL → s.vm.findClass y.cls = some m.cls → (∀ w ∈ lw_all, w.before av.toArray s = true) → va_K D cl tys s → va_P D cl w s.heap → va_D A w → va_S A s.heap s.heap [] → (∀ q : Nat, s.heap.size ≤ q → A q) → lv_has ls maxL (lv_args 0 av) →
      W p l e (tw_rm fr lo) s m av.toArray below meth c s.heap [] 0 0 (MQ below (tw_Qi D cl tys r w' A) av.toArray s 0 0 A) (F0 m 0 ls [])) : Ci l y cc maxL ret fr lo D cl tys av w r w' := by
  intro sz
  refine Met.ofW (cc := cc) (maxL := maxL) (ret := some ret) hy rfl ?_
  intro p e s m args below meth c s₁ B hml hv
  obtain ⟨rfl, hsz, hP, hK, hD0⟩ := hv
  have hts := atoms_spec (ws := ws_ y cc maxL (some ret)) B.pre
  have hts : ∀ w ∈ lw_all, w.before _ s = true := fun w h => hts w (List.mem_cons_of_mem _ h)
  have hown : s.vm.findClass y.cls = some m.cls := findClass_of_methodNamed B.named
  subst hsz
  have hD := hD0.self (sz := s.heap.size)
  generalize hAe : va_A w s.heap.size = A at hD ⊢
  have hA : ∀ q : Nat, s.heap.size ≤ q → A q := fun q h => by rw [← hAe]; exact Or.inr h
  have hl := lv_entry av (n := maxL) hlen
  rw [lg_entry_eq]
  exact body p e s m below meth c A _ B.exec B.bytes B.returns B.notSynchronized hml hown hts hK hP hD va_S.rf hA hl
theorem Cv.of (hy : plainName y.cls = true) (hlen : (lg_sl av).length ≤ maxL)
    (body : ∀ (p : Program) (e : Env) (s : State) (m : MethodId) (below : List Frame) (meth : Method) (c : Code) (A : Nat → Prop) (ls : Array Slot), p.tables.exec = Jvm.exec → c.code = cc → meth.sig.returnType = none → meth.locks = false → c.maxLocals = maxL → s.vm.findClass y.cls = some m.cls → (∀ w ∈ lw_all, w.before av.toArray s = true) → va_K D cl tys s → va_P D cl w s.heap → va_D A w → va_S A s.heap s.heap [] → (∀ q : Nat, s.heap.size ≤ q → A q) → lv_has ls maxL (lv_args 0 av) →
      W p l e (tw_rm fr lo) s m av.toArray below meth c s.heap [] 0 0 (MQ below (tw_Qv D cl tys w' A) av.toArray s 0 0 A) (F0 m 0 ls [])) : Cv l y cc maxL fr lo D cl tys av w w' := by
  intro sz
  refine Met.ofW (cc := cc) (maxL := maxL) (ret := none) hy rfl ?_
  intro p e s m args below meth c s₁ B hml hv
  obtain ⟨rfl, hsz, hP, hK, hD0⟩ := hv
  have hts := atoms_spec (ws := ws_ y cc maxL none) B.pre
  have hts : ∀ w ∈ lw_all, w.before _ s = true := fun w h => hts w (List.mem_cons_of_mem _ h)
  have hown : s.vm.findClass y.cls = some m.cls := findClass_of_methodNamed B.named
  subst hsz
  have hD := hD0.self (sz := s.heap.size)
  generalize hAe : va_A w s.heap.size = A at hD ⊢
  have hA : ∀ q : Nat, s.heap.size ≤ q → A q := fun q h => by rw [← hAe]; exact Or.inr h
  have hl := lv_entry av (n := maxL) hlen
  rw [lg_entry_eq]
  exact body p e s m below meth c A _ B.exec B.bytes B.returns B.notSynchronized hml hown hts hK hP hD va_S.rf hA hl
end TWC
section TWE
variable {p : Program} {l : Launch} {e : Env} {R : Room} {s : State} {m : MethodId} {args : Array Value} {below : List Frame} {meth : Method} {c : Code} {H : Heap} {locs : List Loc} {cells slots : Nat}
variable {cc : ByteArray} {pc : Nat} {ls : Array Slot} {D : va_G} {cl : List vw_C} {tys : List (ClassId × FieldType)} {w' : va_W} {A : Nat → Prop}
theorem tw_iret {v r : Int32} (hexec : p.tables.exec = Jvm.exec) (hb : c.code = cc) (hr : meth.sig.returnType = some .int) (hlocks : meth.locks = false) (hK : va_K D cl tys s) (hP : va_P D cl w' H) (hD : va_D A w') (hS : va_S A s.heap H locs) (hv : v = r) (hdg : decode cc pc = .ok (.ireturn, 1)) :
    W p l e R s m args below meth c H locs cells slots (MQ below (tw_Qi D cl tys r w' A) args s cells slots A) (F0 m pc ls [.int v]) :=
  W.iret (v := v) hexec hb hr (fun t ht hW => ⟨⟨v, (), rfl, hv, by rw [ht]; exact hP, va_K.moved hW.alike hK, hD⟩, hS.F ht⟩) hS.2.2 hdg hlocks
theorem tw_zret {v r : Int32} (hexec : p.tables.exec = Jvm.exec) (hb : c.code = cc) (hr : meth.sig.returnType = some .boolean) (hlocks : meth.locks = false) (hn : narrow .boolean (.int v) = .int v) (hK : va_K D cl tys s) (hP : va_P D cl w' H) (hD : va_D A w') (hS : va_S A s.heap H locs) (hv : v = r) (hdg : decode cc pc = .ok (.ireturn, 1)) :
    W p l e R s m args below meth c H locs cells slots (MQ below (tw_Qi D cl tys r w' A) args s cells slots A) (F0 m pc ls [.int v]) :=
  W.zret (v := v) hexec hb hr hn (fun t ht hW => ⟨⟨v, (), rfl, hv, by rw [ht]; exact hP, va_K.moved hW.alike hK, hD⟩, hS.F ht⟩) hS.2.2 hdg hlocks
theorem tw_vret (hexec : p.tables.exec = Jvm.exec) (hb : c.code = cc) (hr : meth.sig.returnType = none) (hlocks : meth.locks = false) (hK : va_K D cl tys s) (hP : va_P D cl w' H) (hD : va_D A w') (hS : va_S A s.heap H locs) (hdg : decode cc pc = .ok (.return_, 1)) :
    W p l e R s m args below meth c H locs cells slots (MQ below (tw_Qv D cl tys w' A) args s cells slots A) (F0 m pc ls []) :=
  W.vret hexec hb hr (fun t ht hW => ⟨⟨(), rfl, trivial, by rw [ht]; exact hP, va_K.moved hW.alike hK, hD⟩, hS.F ht⟩) hS.2.2 hdg hlocks
end TWE
section TWK
variable {p : Program} {l : Launch} {e : Env} {R : Room} {s : State} {m : MethodId} {args : Array Value} {below : List Frame} {meth : Method} {c : Code} {H : Heap} {locs : List Loc} {cells slots : Nat} {Q : State → Prop}
variable {cc : ByteArray} {pc nL : Nat} {ls : Array Slot} {D : va_G} {cl : List vw_C} {A : Nat → Prop}
variable {y : MethodName} {bytes : ByteArray} {maxL fr lo index n b ci q0 : Nat} {own : String} {T : u_T} {N : Nat} {fs : List Value} {As rest st0 : List Value} {tys tys' : List (ClassId × FieldType)} {ws w wr w' : va_W}
/-- a call by contract: the callee's cells are those at isC, the others (isR) stay -/
theorem tw_calli {ret : FieldType} {r : Int32} (C : Ci l y bytes maxL ret fr lo D cl tys' (.ref b :: As) w r w') (S : CallFix p m c cc nL s args lw_all own) (hg : GoodIn lw_all (wsV own index y.cls y (ws_ y bytes maxL (some ret))))
    (hd : y.cls = y.cls ∧ y.cls ≠ "java/lang/invoke/MethodHandle" ∧ y.cls ≠ "java/lang/invoke/VarHandle" ∧ (parseMethodDescriptor y.desc).map (fun d => d.parameters.length) = some n) (hR : fr + 1 ≤ R.frames ∧ 8 + (maxL + 11) + lo ≤ R.locals)
    (hK : va_K D cl tys s) (hP : va_P D cl ws H) (hD : va_D A ws) (hS : va_S A s.heap H locs) (hA : ∀ q : Nat, s.heap.size ≤ q → A q)
    (isC isR tC : List Nat) (hC : isC.map (fun i => ws[i]?) = w.map some) (hwr : isR.map (fun i => ws[i]?) = wr.map some) (hn1 : va_nd isC = true) (hn2 : va_nd isR = true) (hdis : ∀ i ∈ isR, i ∉ isC) (ht : tC.filterMap (fun i => tys[i]?) = tys')
    (hc : cl[ci]? = some (y.cls, T, N)) (he : w[q0]? = some (b, .inr (ci, fs))) (hst : st0 = As.reverse ++ .ref b :: rest) (hn : As.length = n) (hsize : ls.size = nL) (hW : (rest.map fun v => v.category).sum ≤ 8) (hdg : decode cc pc = .ok (.invokevirtual index, 3)) (hf : cells ≤ R.cells ∧ slots ≤ R.slots)
    (kk : ∀ (H1 : Heap) (locs1 : List Loc), va_P D cl (wr ++ w') H1 → va_D A (wr ++ w') → va_S A s.heap H1 locs1 → W p l e R s m args below meth c H1 locs1 cells slots Q (F0 m (pc + 3) ls (.int r :: rest))) :
    W p l e R s m args below meth c H locs cells slots Q (F0 m pc ls st0) := by
  have hCf : isC.filterMap (fun i => ws[i]?) = w := by
    have h2 : (isC.map (fun i => ws[i]?)).filterMap id = isC.filterMap (fun i => ws[i]?) := by rw [List.filterMap_map]; rfl
    rw [← h2, hC, List.filterMap_map]
    exact List.filterMap_some
  have hPc := hP.sub (ws' := w) isC hCf
  have hDc := hD.sub (ws' := w) isC hn1 hC
  have hKc := hK.sub (tys' := tys') tC ht
  have hFc := va_free (wc := w) hD hS hA isC hC
  refine va_calli (va_runV (As := As) (rest := rest) S (C H.size) (cwV n S.2.2.2.2 hg rfl rfl rfl hd hR) ⟨fun a U g mk q => by obtain ⟨q0, q1, qP, qK, qD⟩ := q; exact ⟨q0, q1, qP, va_K.moved (u := U) (U := U.calling g mk a) (Vm.Alike.refl U.vm) qK, qD⟩, va_recv hKc hPc hc he, fun U hU hW => ⟨rfl, by rw [hU], by rw [hU]; exact hPc, va_K.moved hW.alike hKc, hDc.weaken (fun _ _ _ _ => trivial)⟩⟩ rfl hn hsize hst (lv_room hW) hdg hf) hS (fun q _ h => hFc q h) hFc (fun r_1 u t H1 locs1 ht hvm hw1 hB hz1 hk1 hS1 => ?_)
  obtain ⟨hP1, hK1, hD1⟩ := hB
  rw [ht] at hP1
  obtain ⟨hP2, hD2⟩ := va_join (wr := wr) (w1 := w') hP hD isC isR hC hwr hn2 hdis hk1 hFc hP1 hD1
  have hw1 : r_1 = r := hw1
  rw [hw1]
  exact kk H1 locs1 hP2 hD2 hS1
theorem tw_callv (C : Cv l y bytes maxL fr lo D cl tys' (.ref b :: As) w w') (S : CallFix p m c cc nL s args lw_all own) (hg : GoodIn lw_all (wsV own index y.cls y (ws_ y bytes maxL none)))
    (hd : y.cls = y.cls ∧ y.cls ≠ "java/lang/invoke/MethodHandle" ∧ y.cls ≠ "java/lang/invoke/VarHandle" ∧ (parseMethodDescriptor y.desc).map (fun d => d.parameters.length) = some n) (hR : fr + 1 ≤ R.frames ∧ 8 + (maxL + 11) + lo ≤ R.locals)
    (hK : va_K D cl tys s) (hP : va_P D cl ws H) (hD : va_D A ws) (hS : va_S A s.heap H locs) (hA : ∀ q : Nat, s.heap.size ≤ q → A q)
    (isC isR tC : List Nat) (hC : isC.map (fun i => ws[i]?) = w.map some) (hwr : isR.map (fun i => ws[i]?) = wr.map some) (hn1 : va_nd isC = true) (hn2 : va_nd isR = true) (hdis : ∀ i ∈ isR, i ∉ isC) (ht : tC.filterMap (fun i => tys[i]?) = tys')
    (hc : cl[ci]? = some (y.cls, T, N)) (he : w[q0]? = some (b, .inr (ci, fs))) (hst : st0 = As.reverse ++ .ref b :: rest) (hn : As.length = n) (hsize : ls.size = nL) (hW : (rest.map fun v => v.category).sum ≤ 8) (hdg : decode cc pc = .ok (.invokevirtual index, 3)) (hf : cells ≤ R.cells ∧ slots ≤ R.slots)
    (kk : ∀ (H1 : Heap) (locs1 : List Loc), va_P D cl (wr ++ w') H1 → va_D A (wr ++ w') → va_S A s.heap H1 locs1 → W p l e R s m args below meth c H1 locs1 cells slots Q (F0 m (pc + 3) ls rest)) :
    W p l e R s m args below meth c H locs cells slots Q (F0 m pc ls st0) := by
  have hCf : isC.filterMap (fun i => ws[i]?) = w := by
    have h2 : (isC.map (fun i => ws[i]?)).filterMap id = isC.filterMap (fun i => ws[i]?) := by rw [List.filterMap_map]; rfl
    rw [← h2, hC, List.filterMap_map]
    exact List.filterMap_some
  have hPc := hP.sub (ws' := w) isC hCf
  have hDc := hD.sub (ws' := w) isC hn1 hC
  have hKc := hK.sub (tys' := tys') tC ht
  have hFc := va_free (wc := w) hD hS hA isC hC
  refine va_callv (va_runV (As := As) (rest := rest) S (C H.size) (cwV n S.2.2.2.2 hg rfl rfl rfl hd hR) ⟨fun a U g mk q => by obtain ⟨q0, q1, qP, qK, qD⟩ := q; exact ⟨q0, q1, qP, va_K.moved (u := U) (U := U.calling g mk a) (Vm.Alike.refl U.vm) qK, qD⟩, va_recv hKc hPc hc he, fun U hU hW => ⟨rfl, by rw [hU], by rw [hU]; exact hPc, va_K.moved hW.alike hKc, hDc.weaken (fun _ _ _ _ => trivial)⟩⟩ rfl hn hsize hst (lv_room hW) hdg hf) hS (fun q _ h => hFc q h) hFc (fun u t H1 locs1 ht hvm hw1 hB hz1 hk1 hS1 => ?_)
  obtain ⟨hP1, hK1, hD1⟩ := hB
  rw [ht] at hP1
  obtain ⟨hP2, hD2⟩ := va_join (wr := wr) (w1 := w') hP hD isC isR hC hwr hn2 hdis hk1 hFc hP1 hD1
  exact kk H1 locs1 hP2 hD2 hS1
end TWK
end
section
/-! MIRRORS: what the bytecode computes, as plain functions over arrays (Nat → Int32). x_: the component; m_: the reference. -/
abbrev al_T : Type := (Nat → Int32) × (Nat → Int32)
def x_gain (lt : Nat → Int32) (ge gu : Int32) (i j : Nat) : Int32 := if lt i = lt (10 + j) then ge else gu
def x_cost (op le : Int32) (last sort : Nat) : Int32 := if sort = 0 then nI 0 else if last = sort then le else op + le
def al_max (a b : Int32) : Int32 := if b ≤ a then a else b
def x_off (t : al_T) (k : Nat) (sc w : Int32) : al_T := if t.1 k ≤ sc then (upd t.1 k sc, upd t.2 k ((if sc ≤ t.1 k then t.2 k else nI 0) + w)) else t
def x_exs (op le gn : Int32) (cell frm sort last : Nat) (t : al_T) : al_T :=
  if -100000 < t.1 (121 * last + frm) then x_off t (121 * sort + cell) (t.1 (121 * last + frm) + gn - x_cost op le last sort) (t.2 (121 * last + frm)) else t
def x_ext (op le gn : Int32) (cell frm sort : Nat) : Nat → al_T → al_T
  | 0, t => t
  | k + 1, t => x_exs op le gn cell frm sort k (x_ext op le gn cell frm sort k t)
def x_may (fd i j : Nat) : Bool := if fd = 3 then true else if fd = 1 then i == 0 else if fd = 2 then j == 0 else i == 0 && j == 0
def x_ini (cell : Nat) : Nat → al_T → al_T
  | 0, t => t
  | k + 1, t => (upd (x_ini cell k t).1 (121 * k + cell) (-100000), upd (x_ini cell k t).2 (121 * k + cell) (nI 0))
def x_c2 (fd i j : Nat) (t : al_T) : al_T := if x_may fd i j = true then x_off (x_ini (11 * i + j) 3 t) (121 * 0 + (11 * i + j)) (nI 0) (nI 1) else x_ini (11 * i + j) 3 t
def x_c3 (lt : Nat → Int32) (ge gu op le : Int32) (fd i j : Nat) (t : al_T) : al_T :=
  if 0 < i ∧ 0 < j then x_ext op le (x_gain lt ge gu (i - 1) (j - 1)) (11 * i + j) (11 * i + j - 11 - 1) 0 3 (x_c2 fd i j t) else x_c2 fd i j t
def x_c4 (lt : Nat → Int32) (ge gu op le : Int32) (fd i j : Nat) (t : al_T) : al_T :=
  if 0 < i then x_ext op le (nI 0) (11 * i + j) (11 * i + j - 11) 1 3 (x_c3 lt ge gu op le fd i j t) else x_c3 lt ge gu op le fd i j t
def x_cel (lt : Nat → Int32) (ge gu op le : Int32) (fd i j : Nat) (t : al_T) : al_T :=
  if 0 < j then x_ext op le (nI 0) (11 * i + j) (11 * i + j - 1) 2 3 (x_c4 lt ge gu op le fd i j t) else x_c4 lt ge gu op le fd i j t
def x_row (lt : Nat → Int32) (ge gu op le : Int32) (fd i : Nat) : Nat → al_T → al_T
  | 0, t => t
  | j + 1, t => x_cel lt ge gu op le fd i j (x_row lt ge gu op le fd i j t)
def x_frt (lt : Nat → Int32) (ge gu op le : Int32) (fd m : Nat) : Nat → al_T → al_T
  | 0, t => t
  | i + 1, t => x_row lt ge gu op le fd i (m + 1) (x_frt lt ge gu op le fd m i t)
def x_bat (fr : Nat → Int32) (i j : Nat) : Int32 := al_max (al_max (fr (11 * i + j)) (fr (121 + (11 * i + j)))) (fr (242 + (11 * i + j)))
def x_wsm (fr fw : Nat → Int32) (last : Nat) (best : Int32) : Nat → Int32
  | 0 => nI 0
  | k + 1 => if fr (121 * k + last) = best then x_wsm fr fw last best k + fw (121 * k + last) else x_wsm fr fw last best k
/-- the greatest of a start and k values -/
def al_mx (f : Nat → Int32) (x : Int32) : Nat → Int32
  | 0 => x
  | k + 1 => al_max (al_mx f x k) (f k)
/-- .. of k rows of m values each -/
def al_mx2 (f : Nat → Nat → Int32) (m : Nat) (x : Int32) : Nat → Int32
  | 0 => x
  | k + 1 => al_mx (f k) (al_mx2 f m x k) m
/-- from behind -/
def x_wcl (lt : Nat → Int32) (ge gu op le : Int32) (n m : Nat) (bh : Nat → Int32) (i j last sort : Nat) : Int32 :=
  if (if sort = 2 then i else i + 1) ≤ n ∧ (if sort = 1 then j else j + 1) ≤ m then (if sort = 0 then x_gain lt ge gu i j else nI 0) - x_cost op le last sort + bh (121 * sort + 11 * (if sort = 2 then i else i + 1) + (if sort = 1 then j else j + 1)) else -100000
def x_rst (lt : Nat → Int32) (ge gu op le : Int32) (n m : Nat) (bh : Nat → Int32) (i j last : Nat) : Int32 :=
  if i = n ∧ j = m then nI 0 else al_mx (x_wcl lt ge gu op le n m bh i j last) (-100000) 3
def x_bhc (lt : Nat → Int32) (ge gu op le : Int32) (n m i j : Nat) : Nat → (Nat → Int32) → (Nat → Int32)
  | 0, bh => bh
  | k + 1, bh => upd (x_bhc lt ge gu op le n m i j k bh) (121 * k + 11 * i + j) (x_rst lt ge gu op le n m (x_bhc lt ge gu op le n m i j k bh) i j k)
/-- columns j .. 0 of row i, given k = j + 1 -/
def x_bhr (lt : Nat → Int32) (ge gu op le : Int32) (n m i : Nat) : Nat → (Nat → Int32) → (Nat → Int32)
  | 0, bh => bh
  | j + 1, bh => x_bhr lt ge gu op le n m i j (x_bhc lt ge gu op le n m i j 3 bh)
def x_bhl (lt : Nat → Int32) (ge gu op le : Int32) (n m : Nat) : Nat → (Nat → Int32) → (Nat → Int32)
  | 0, bh => bh
  | i + 1, bh => x_bhl lt ge gu op le n m i (x_bhr lt ge gu op le n m i (m + 1) bh)
/-- the smallest sort that fits -/
def x_srt (lt : Nat → Int32) (ge gu op le : Int32) (n m : Nat) (bh : Nat → Int32) (i j last : Nat) : Nat :=
  if x_wcl lt ge gu op le n m bh i j last 0 = bh (121 * last + 11 * i + j) then 0 else if x_wcl lt ge gu op le n m bh i j last 1 = bh (121 * last + 11 * i + j) then 1 else 2
/-- the walk along the columns: how many, and which -/
def x_fnd (st : Nat → Nat → Nat → Nat) (n m : Nat) : Nat → Nat → Nat → Nat → Nat → (Nat → Int32) → Nat × (Nat → Int32)
  | 0, _, _, _, cc, cs => (cc, cs)
  | k + 1, i, j, last, cc, cs => if i < n ∨ j < m then x_fnd st n m k (if st i j last = 2 then i else i + 1) (if st i j last = 1 then j else j + 1) (st i j last) (cc + 1) (upd cs cc (nI (st i j last))) else (cc, cs)
/-! the reference -/
def m_o1 (t : al_T) (k : Nat) (sc : Int32) : al_T := if sc ≤ t.1 k then t else (upd t.1 k sc, upd t.2 k (nI 0))
def m_off (t : al_T) (k : Nat) (sc ct : Int32) : al_T := if sc = (m_o1 t k sc).1 k ∧ ¬ sc ≤ -50000 then ((m_o1 t k sc).1, upd (m_o1 t k sc).2 k ((m_o1 t k sc).2 k + ct)) else m_o1 t k sc
def m_ini (cell : Nat) (t : al_T) : al_T := (upd t.1 cell (-100000), upd t.2 cell (nI 0))
def m_f1 (how n m i j last : Nat) (t : al_T) : al_T := if (i = n ∧ j = m) ∨ how = 1 ∨ (how = 2 ∧ i = n) then m_off (m_ini ((i * 11 + j) * 3 + last) t) ((i * 11 + j) * 3 + last) (nI 0) (nI 1) else m_ini ((i * 11 + j) * 3 + last) t
def m_f2 (lt : Nat → Int32) (ge gu : Int32) (how n m i j last : Nat) (t : al_T) : al_T :=
  if i < n ∧ j < m then m_off (m_f1 how n m i j last t) ((i * 11 + j) * 3 + last) ((m_f1 how n m i j last t).1 (((i + 1) * 11 + j + 1) * 3) + x_gain lt ge gu i j) ((m_f1 how n m i j last t).2 (((i + 1) * 11 + j + 1) * 3)) else m_f1 how n m i j last t
def m_g1 (op le : Int32) (i j cell : Nat) : Nat → al_T → al_T
  | 0, t => t
  | k + 1, t => m_off (m_g1 op le i j cell k t) cell ((m_g1 op le i j cell k t).1 (((i + (k + 1)) * 11 + j) * 3 + 1) - op - nI (k + 1) * le) ((m_g1 op le i j cell k t).2 (((i + (k + 1)) * 11 + j) * 3 + 1))
def m_g2 (op le : Int32) (i j cell : Nat) : Nat → al_T → al_T
  | 0, t => t
  | k + 1, t => m_off (m_g2 op le i j cell k t) cell ((m_g2 op le i j cell k t).1 ((i * 11 + j + (k + 1)) * 3 + 2) - op - nI (k + 1) * le) ((m_g2 op le i j cell k t).2 ((i * 11 + j + (k + 1)) * 3 + 2))
def m_f3 (lt : Nat → Int32) (ge gu op le : Int32) (how n m i j last : Nat) (t : al_T) : al_T :=
  if last = 1 then m_f2 lt ge gu how n m i j last t else m_g1 op le i j ((i * 11 + j) * 3 + last) (n - i) (m_f2 lt ge gu how n m i j last t)
def m_fil (lt : Nat → Int32) (ge gu op le : Int32) (how n m i j last : Nat) (t : al_T) : al_T :=
  if last = 2 then m_f3 lt ge gu op le how n m i j last t else m_g2 op le i j ((i * 11 + j) * 3 + last) (m - j) (m_f3 lt ge gu op le how n m i j last t)
/-- places c - 1 .. 0 of row i -/
def m_wrw (lt : Nat → Int32) (ge gu op le : Int32) (how n m i : Nat) : Nat → al_T → al_T
  | 0, t => t
  | c + 1, t => m_wrw lt ge gu op le how n m i c (m_fil lt ge gu op le how n m i (c / 3) (c % 3) t)
def m_wrk (lt : Nat → Int32) (ge gu op le : Int32) (how n m : Nat) : Nat → al_T → al_T
  | 0, t => t
  | i + 1, t => m_wrk lt ge gu op le how n m i (m_wrw lt ge gu op le how n m i ((m + 1) * 3) t)
def m_rs1 (le : Int32) (sc : Nat → Int32) (i j last n : Nat) : Int32 :=
  if last = 1 then al_mx (fun k => sc (((i + (k + 1)) * 11 + j) * 3 + 1) - nI (k + 1) * le) (sc ((i * 11 + j) * 3 + last)) (n - i) else sc ((i * 11 + j) * 3 + last)
def m_rst (le : Int32) (sc : Nat → Int32) (n m i j last : Nat) : Int32 :=
  if last = 2 then al_mx (fun k => sc ((i * 11 + j + (k + 1)) * 3 + 2) - nI (k + 1) * le) (m_rs1 le sc i j last n) (m - j) else m_rs1 le sc i j last n
/-- a sort, or 3 at the end -/
def m_srt (lt : Nat → Int32) (ge gu op le : Int32) (sc : Nat → Int32) (n m i j last : Nat) : Nat :=
  if i < n ∧ j < m ∧ m_rst le sc n m (i + 1) (j + 1) 0 + x_gain lt ge gu i j = m_rst le sc n m i j last then 0
  else if i < n ∧ m_rst le sc n m (i + 1) j 1 - (le + (if last = 1 then nI 0 else op)) = m_rst le sc n m i j last then 1 else 2
def m_wlk (st : Nat → Nat → Nat → Nat) (n m : Nat) (want : Int32) : Nat → Nat → Nat → Nat → Nat → Int32
  | 0, _, _, _, _ => -1000
  | f + 1, i, j, last, k => if i = n ∧ j = m then (if 0 ≤ want then -1000 else nI k) else if nI k = want then nI (st i j last) else m_wlk st n m want f (if st i j last = 2 then i else i + 1) (if st i j last = 1 then j else j + 1) (st i j last) (k + 1)
end
section
/-! THE COMPONENT, leaves: its world, and the contracts of gain, costOf, mayBegin, offer, extend, bestAt -/
abbrev vwCl : List vw_C := [(RX0, TX0, 12), (RX1, TX1, 8)]
abbrev xw (q : Nat → Nat) (d : Nat → ClassId) (cn : Nat → Nat) (lt : Nat → Int32) (ge gu op le : Int32) (fr fw bh : Nat → Int32) (fd cc : Nat) (cs : Nat → Int32) : va_W := [(q 0, .inr (0, [.ref (q 1), .ref (q 2), .int ge, .int gu, .int op, .int le, .ref (q 3), .ref (q 4), .ref (q 5), .int (nI fd), .int (nI cc), .ref (q 6)])), (q 1, .inl (d 1, 2, .inl (fun k => nI (cn k)))), (q 2, .inl (d 2, 20, .inl lt)), (q 3, .inl (d 3, 363, .inl fr)), (q 4, .inl (d 4, 363, .inl fw)), (q 5, .inl (d 5, 363, .inl bh)), (q 6, .inl (d 6, 20, .inl cs))]
abbrev xt (d : Nat → ClassId) : List (ClassId × FieldType) := [(d 1, .byte), (d 2, .byte), (d 3, .int), (d 4, .int), (d 5, .int), (d 6, .byte)]
/-- a number written into an array of numbers -/
def tw_un (f : Nat → Nat) (k x : Nat) : Nat → Nat := fun j => if j = k then x else f j
theorem tw_updN (f : Nat → Nat) (k x : Nat) : upd (fun j => nI (f j)) k (nI x) = fun j => nI (tw_un f k x j) := by
  funext j
  by_cases h : j = k
  · simp [upd, tw_un, h]
  · simp [upd, tw_un, h]
section
variable (l : Launch) (D : va_G) (q : Nat → Nat) (d : Nat → ClassId) (cn : Nat → Nat) (lt : Nat → Int32) (ge gu op le : Int32) (fr fw bh : Nat → Int32) (fd cc : Nat) (cs : Nat → Int32)
set_option maxHeartbeats 4000000 in
set_option maxRecDepth 100000 in
theorem kX0_gain (i : Nat) (j : Nat) (h1 : i < 10) (h2 : j < 10) : Ci l yX0_gain cX0_gain 3 .int 0 0 D vwCl (xt d) [.ref (q 0), .int (nI i), .int (nI j)] (xw q d cn lt ge gu op le fr fw bh fd cc cs) (x_gain lt ge gu i j) (xw q d cn lt ge gu op le fr fw bh fd cc cs) := by
  refine Ci.of (by decide +kernel) (Nat.le_of_ble_eq_true rfl) ?_
  intro p e s m below meth c A ls hx hb hr hlocks hml hown hts hK hP hD hS hA hl
  have hown : s.vm.findClass RX0 = some m.cls := hown
  have S : CallFix p m c cX0_gain 3 s ([.ref (q 0), .int (nI i), .int (nI j)] : List Value).toArray lw_all RX0 := ⟨hx, hb, hml, hown, hts⟩
  have hl : lv_has ls 3 [(0, .ref (q 0)), (1, .int (nI i)), (2, .int (nI j))] := hl
  refine lv_aload_n hx hb dX0_gain_0 rfl (lv_at hl 0 rfl) ?_
  refine va_get (D := D) (ci := 0) (v := .ref (q 2)) (C := RX0) (T := TX0) (N := 12) hx hb hts in_X0 hown hK hP 0 rfl rfl 1 (by decide) (hts _ q31) (fun _ h9 => h9) rfl dX0_gain_1 ?_
  refine lv_iload_n hx hb dX0_gain_4 rfl (lv_at hl 1 rfl) ?_
  refine tw_bald hx hb hK hP 2 1 rfl rfl (by omega) (by decide) dX0_gain_5 ?_
  refine lv_aload_n hx hb dX0_gain_6 rfl (lv_at hl 0 rfl) ?_
  refine va_get (D := D) (ci := 0) (v := .ref (q 2)) (C := RX0) (T := TX0) (N := 12) hx hb hts in_X0 hown hK hP 0 rfl rfl 1 (by decide) (hts _ q31) (fun _ h9 => h9) rfl dX0_gain_7 ?_
  refine lv_bipush (v := nI 10) hx hb dX0_gain_10 (by decide +kernel) ?_
  refine lv_iload_n hx hb dX0_gain_12 rfl (lv_at hl 2 rfl) ?_
  refine tw_iadd hx hb dX0_gain_13 ?_
  refine tw_bald hx hb hK hP 2 1 rfl rfl (by omega) (by decide) dX0_gain_14 ?_
  refine lv_icmp_ne (tgt := 25) hx hb dX0_gain_15 (by decide) (fun c_15 => ?_) (fun c_15 => ?_)
  · 
    refine lv_aload_n hx hb dX0_gain_25 rfl (lv_at hl 0 rfl) ?_
    refine va_get (D := D) (ci := 0) (v := .int gu) (C := RX0) (T := TX0) (N := 12) hx hb hts in_X0 hown hK hP 0 rfl rfl 3 (by decide) (hts _ q33) (fun _ h9 => h9) rfl dX0_gain_26 ?_
    exact tw_iret hx hb hr hlocks hK hP hD hS (by rw [x_gain, if_neg c_15]) dX0_gain_29
  · 
    refine lv_aload_n hx hb dX0_gain_18 rfl (lv_at hl 0 rfl) ?_
    refine va_get (D := D) (ci := 0) (v := .int ge) (C := RX0) (T := TX0) (N := 12) hx hb hts in_X0 hown hK hP 0 rfl rfl 2 (by decide) (hts _ q32) (fun _ h9 => h9) rfl dX0_gain_19 ?_
    refine lv_goto (tgt := 29) hx hb dX0_gain_22 (by decide) ?_
    exact tw_iret hx hb hr hlocks hK hP hD hS (by rw [x_gain, if_pos c_15]) dX0_gain_29
set_option maxHeartbeats 4000000 in
set_option maxRecDepth 100000 in
theorem kX0_costOf (last : Nat) (sort : Nat) (h1 : last < 3) (h2 : sort < 3) : Ci l yX0_costOf cX0_costOf 3 .int 0 0 D vwCl (xt d) [.ref (q 0), .int (nI last), .int (nI sort)] (xw q d cn lt ge gu op le fr fw bh fd cc cs) (x_cost op le last sort) (xw q d cn lt ge gu op le fr fw bh fd cc cs) := by
  refine Ci.of (by decide +kernel) (Nat.le_of_ble_eq_true rfl) ?_
  intro p e s m below meth c A ls hx hb hr hlocks hml hown hts hK hP hD hS hA hl
  have hown : s.vm.findClass RX0 = some m.cls := hown
  have S : CallFix p m c cX0_costOf 3 s ([.ref (q 0), .int (nI last), .int (nI sort)] : List Value).toArray lw_all RX0 := ⟨hx, hb, hml, hown, hts⟩
  have hl : lv_has ls 3 [(0, .ref (q 0)), (1, .int (nI last)), (2, .int (nI sort))] := hl
  refine lv_iload_n hx hb dX0_costOf_0 rfl (lv_at hl 2 rfl) ?_
  refine tw_if_ne (tgt := 6) hx hb (by omega) dX0_costOf_1 (by decide) (fun c_1 => ?_) (fun c_1 => ?_)
  · 
    refine lv_iload_n hx hb dX0_costOf_6 rfl (lv_at hl 1 rfl) ?_
    refine lv_iload_n hx hb dX0_costOf_7 rfl (lv_at hl 2 rfl) ?_
    refine tw_icmp_ne (tgt := 18) hx hb (by omega) (by omega) dX0_costOf_8 (by decide) (fun c_8 => ?_) (fun c_8 => ?_)
    · 
      refine lv_aload_n hx hb dX0_costOf_18 rfl (lv_at hl 0 rfl) ?_
      refine va_get (D := D) (ci := 0) (v := .int op) (C := RX0) (T := TX0) (N := 12) hx hb hts in_X0 hown hK hP 0 rfl rfl 4 (by decide) (hts _ q34) (fun _ h9 => h9) rfl dX0_costOf_19 ?_
      refine lv_aload_n hx hb dX0_costOf_22 rfl (lv_at hl 0 rfl) ?_
      refine va_get (D := D) (ci := 0) (v := .int le) (C := RX0) (T := TX0) (N := 12) hx hb hts in_X0 hown hK hP 0 rfl rfl 5 (by decide) (hts _ q35) (fun _ h9 => h9) rfl dX0_costOf_23 ?_
      refine lv_iadd hx hb dX0_costOf_26 ?_
      exact tw_iret hx hb hr hlocks hK hP hD hS (by simp [x_cost, c_1, c_8]) dX0_costOf_27
    · 
      refine lv_aload_n hx hb dX0_costOf_11 rfl (lv_at hl 0 rfl) ?_
      refine va_get (D := D) (ci := 0) (v := .int le) (C := RX0) (T := TX0) (N := 12) hx hb hts in_X0 hown hK hP 0 rfl rfl 5 (by decide) (hts _ q35) (fun _ h9 => h9) rfl dX0_costOf_12 ?_
      refine lv_goto (tgt := 27) hx hb dX0_costOf_15 (by decide) ?_
      exact tw_iret hx hb hr hlocks hK hP hD hS (by simp [x_cost, c_1, c_8]) dX0_costOf_27
  · 
    refine lv_iconst (v := nI 0) hx hb dX0_costOf_4 (by decide +kernel) ?_
    exact tw_iret hx hb hr hlocks hK hP hD hS (by simp [x_cost, c_1]) dX0_costOf_5
set_option maxHeartbeats 4000000 in
set_option maxRecDepth 100000 in
theorem kX0_mayBegin (i : Nat) (j : Nat) (h1 : i < 11) (h2 : j < 11) (h3 : fd < 4) : Ci l yX0_mayBegin cX0_mayBegin 3 .boolean 0 0 D vwCl (xt d) [.ref (q 0), .int (nI i), .int (nI j)] (xw q d cn lt ge gu op le fr fw bh fd cc cs) (if x_may fd i j = true then nI 1 else nI 0) (xw q d cn lt ge gu op le fr fw bh fd cc cs) := by
  refine Ci.of (by decide +kernel) (Nat.le_of_ble_eq_true rfl) ?_
  intro p e s m below meth c A ls hx hb hr hlocks hml hown hts hK hP hD hS hA hl
  have hown : s.vm.findClass RX0 = some m.cls := hown
  have S : CallFix p m c cX0_mayBegin 3 s ([.ref (q 0), .int (nI i), .int (nI j)] : List Value).toArray lw_all RX0 := ⟨hx, hb, hml, hown, hts⟩
  have hl : lv_has ls 3 [(0, .ref (q 0)), (1, .int (nI i)), (2, .int (nI j))] := hl
  refine lv_aload_n hx hb dX0_mayBegin_0 rfl (lv_at hl 0 rfl) ?_
  refine va_get (D := D) (ci := 0) (v := .int (nI fd)) (C := RX0) (T := TX0) (N := 12) hx hb hts in_X0 hown hK hP 0 rfl rfl 9 (by decide) (hts _ q39) (fun _ h9 => h9) rfl dX0_mayBegin_1 ?_
  refine lv_iconst (v := nI 3) hx hb dX0_mayBegin_4 (by decide +kernel) ?_
  refine tw_icmp_ne (tgt := 10) hx hb (by omega) (by omega) dX0_mayBegin_5 (by decide) (fun c_5 => ?_) (fun c_5 => ?_)
  · 
    refine lv_aload_n hx hb dX0_mayBegin_10 rfl (lv_at hl 0 rfl) ?_
    refine va_get (D := D) (ci := 0) (v := .int (nI fd)) (C := RX0) (T := TX0) (N := 12) hx hb hts in_X0 hown hK hP 0 rfl rfl 9 (by decide) (hts _ q39) (fun _ h9 => h9) rfl dX0_mayBegin_11 ?_
    refine lv_iconst (v := nI 1) hx hb dX0_mayBegin_14 (by decide +kernel) ?_
    refine tw_icmp_ne (tgt := 28) hx hb (by omega) (by omega) dX0_mayBegin_15 (by decide) (fun c_15 => ?_) (fun c_15 => ?_)
    · 
      refine lv_aload_n hx hb dX0_mayBegin_28 rfl (lv_at hl 0 rfl) ?_
      refine va_get (D := D) (ci := 0) (v := .int (nI fd)) (C := RX0) (T := TX0) (N := 12) hx hb hts in_X0 hown hK hP 0 rfl rfl 9 (by decide) (hts _ q39) (fun _ h9 => h9) rfl dX0_mayBegin_29 ?_
      refine lv_iconst (v := nI 2) hx hb dX0_mayBegin_32 (by decide +kernel) ?_
      refine tw_icmp_ne (tgt := 46) hx hb (by omega) (by omega) dX0_mayBegin_33 (by decide) (fun c_33 => ?_) (fun c_33 => ?_)
      · 
        refine lv_iload_n hx hb dX0_mayBegin_46 rfl (lv_at hl 1 rfl) ?_
        refine tw_if_ne (tgt := 58) hx hb (by omega) dX0_mayBegin_47 (by decide) (fun c_47 => ?_) (fun c_47 => ?_)
        · 
          refine lv_iconst (v := nI 0) hx hb dX0_mayBegin_58 (by decide +kernel) ?_
          exact tw_zret hx hb hr hlocks (by decide +kernel) hK hP hD hS (by simp [x_may, c_5, c_15, c_33, c_47]) dX0_mayBegin_59
        · 
          refine lv_iload_n hx hb dX0_mayBegin_50 rfl (lv_at hl 2 rfl) ?_
          refine tw_if_ne (tgt := 58) hx hb (by omega) dX0_mayBegin_51 (by decide) (fun c_51 => ?_) (fun c_51 => ?_)
          · 
            refine lv_iconst (v := nI 0) hx hb dX0_mayBegin_58 (by decide +kernel) ?_
            exact tw_zret hx hb hr hlocks (by decide +kernel) hK hP hD hS (by simp [x_may, c_5, c_15, c_33, c_47, c_51]) dX0_mayBegin_59
          · 
            refine lv_iconst (v := nI 1) hx hb dX0_mayBegin_54 (by decide +kernel) ?_
            refine lv_goto (tgt := 59) hx hb dX0_mayBegin_55 (by decide) ?_
            exact tw_zret hx hb hr hlocks (by decide +kernel) hK hP hD hS (by simp [x_may, c_5, c_15, c_33, c_47, c_51]) dX0_mayBegin_59
      · 
        refine lv_iload_n hx hb dX0_mayBegin_36 rfl (lv_at hl 2 rfl) ?_
        refine tw_if_ne (tgt := 44) hx hb (by omega) dX0_mayBegin_37 (by decide) (fun c_37 => ?_) (fun c_37 => ?_)
        · 
          refine lv_iconst (v := nI 0) hx hb dX0_mayBegin_44 (by decide +kernel) ?_
          exact tw_zret hx hb hr hlocks (by decide +kernel) hK hP hD hS (by simp [x_may, c_5, c_15, c_33, c_37]) dX0_mayBegin_45
        · 
          refine lv_iconst (v := nI 1) hx hb dX0_mayBegin_40 (by decide +kernel) ?_
          refine lv_goto (tgt := 45) hx hb dX0_mayBegin_41 (by decide) ?_
          exact tw_zret hx hb hr hlocks (by decide +kernel) hK hP hD hS (by simp [x_may, c_5, c_15, c_33, c_37]) dX0_mayBegin_45
    · 
      refine lv_iload_n hx hb dX0_mayBegin_18 rfl (lv_at hl 1 rfl) ?_
      refine tw_if_ne (tgt := 26) hx hb (by omega) dX0_mayBegin_19 (by decide) (fun c_19 => ?_) (fun c_19 => ?_)
      · 
        refine lv_iconst (v := nI 0) hx hb dX0_mayBegin_26 (by decide +kernel) ?_
        exact tw_zret hx hb hr hlocks (by decide +kernel) hK hP hD hS (by simp [x_may, c_5, c_15, c_19]) dX0_mayBegin_27
      · 
        refine lv_iconst (v := nI 1) hx hb dX0_mayBegin_22 (by decide +kernel) ?_
        refine lv_goto (tgt := 27) hx hb dX0_mayBegin_23 (by decide) ?_
        exact tw_zret hx hb hr hlocks (by decide +kernel) hK hP hD hS (by simp [x_may, c_5, c_15, c_19]) dX0_mayBegin_27
  · 
    refine lv_iconst (v := nI 1) hx hb dX0_mayBegin_8 (by decide +kernel) ?_
    exact tw_zret hx hb hr hlocks (by decide +kernel) hK hP hD hS (by simp [x_may, c_5]) dX0_mayBegin_9
set_option maxHeartbeats 4000000 in
set_option maxRecDepth 100000 in
theorem kX0_offer (cell : Nat) (sort : Nat) (sc : Int32) (w : Int32) (h1 : cell < 121) (h2 : sort < 3) : Cv l yX0_offer cX0_offer 6 0 0 D vwCl (xt d) [.ref (q 0), .int (nI cell), .int (nI sort), .int sc, .int w] (xw q d cn lt ge gu op le fr fw bh fd cc cs) (xw q d cn lt ge gu op le ((x_off (fr, fw) (121 * sort + cell) sc w).1) ((x_off (fr, fw) (121 * sort + cell) sc w).2) bh fd cc cs) := by
  refine Cv.of (by decide +kernel) (Nat.le_of_ble_eq_true rfl) ?_
  intro p e s m below meth c A ls hx hb hr hlocks hml hown hts hK hP hD hS hA hl
  have hown : s.vm.findClass RX0 = some m.cls := hown
  have S : CallFix p m c cX0_offer 6 s ([.ref (q 0), .int (nI cell), .int (nI sort), .int sc, .int w] : List Value).toArray lw_all RX0 := ⟨hx, hb, hml, hown, hts⟩
  have hl : lv_has ls 6 [(0, .ref (q 0)), (1, .int (nI cell)), (2, .int (nI sort)), (3, .int sc), (4, .int w)] := hl
  refine lv_bipush (v := nI 121) hx hb dX0_offer_0 (by decide +kernel) ?_
  refine lv_iload_n hx hb dX0_offer_2 rfl (lv_at hl 2 rfl) ?_
  refine tw_imul hx hb dX0_offer_3 ?_
  refine lv_iload_n hx hb dX0_offer_4 rfl (lv_at hl 1 rfl) ?_
  refine tw_iadd hx hb dX0_offer_5 ?_
  refine lv_istore (lv' := [(5, .int (nI (121 * sort + cell))), (0, .ref (q 0)), (1, .int (nI cell)), (2, .int (nI sort)), (3, .int sc), (4, .int w)]) hx hb dX0_offer_6 hl (by decide) rfl (fun ls hl => ?_)
  refine lv_iload_n hx hb dX0_offer_8 rfl (lv_at hl 4 rfl) ?_
  refine lv_aload_n hx hb dX0_offer_9 rfl (lv_at hl 1 rfl) ?_
  refine va_get (D := D) (ci := 0) (v := .ref (q 3)) (C := RX0) (T := TX0) (N := 12) hx hb hts in_X0 hown hK hP 0 rfl rfl 6 (by decide) (hts _ q36) (fun _ h9 => h9) rfl dX0_offer_10 ?_
  refine lv_iload hx hb dX0_offer_13 (lv_at hl 0 rfl) ?_
  refine tw_iald hx hb hK hP 3 2 rfl rfl (by omega) (by decide) dX0_offer_15 ?_
  refine lv_icmp_ge (tgt := 20) hx hb dX0_offer_16 (by decide) (fun c_16 => ?_) (fun c_16 => ?_)
  · 
    refine lv_iload_n hx hb dX0_offer_20 rfl (lv_at hl 4 rfl) ?_
    refine lv_aload_n hx hb dX0_offer_21 rfl (lv_at hl 1 rfl) ?_
    refine va_get (D := D) (ci := 0) (v := .ref (q 3)) (C := RX0) (T := TX0) (N := 12) hx hb hts in_X0 hown hK hP 0 rfl rfl 6 (by decide) (hts _ q36) (fun _ h9 => h9) rfl dX0_offer_22 ?_
    refine lv_iload hx hb dX0_offer_25 (lv_at hl 0 rfl) ?_
    refine tw_iald hx hb hK hP 3 2 rfl rfl (by omega) (by decide) dX0_offer_27 ?_
    refine lv_icmp_le (tgt := 39) hx hb dX0_offer_28 (by decide) (fun c_28 => ?_) (fun c_28 => ?_)
    · 
      refine lv_aload_n hx hb dX0_offer_39 rfl (lv_at hl 1 rfl) ?_
      refine va_get (D := D) (ci := 0) (v := .ref (q 3)) (C := RX0) (T := TX0) (N := 12) hx hb hts in_X0 hown hK hP 0 rfl rfl 6 (by decide) (hts _ q36) (fun _ h9 => h9) rfl dX0_offer_40 ?_
      refine lv_iload hx hb dX0_offer_43 (lv_at hl 0 rfl) ?_
      refine lv_iload_n hx hb dX0_offer_45 rfl (lv_at hl 4 rfl) ?_
      refine tw_iast hx hb hK hP hD hS 3 2 rfl rfl (by omega) (by decide) dX0_offer_46 (fun H locs hP hD hS => ?_)
      have hP : va_P D vwCl (xw q d cn lt ge gu op le (upd fr (121 * sort + cell) sc) fw bh fd cc cs) H := hP
      have hD : va_D A (xw q d cn lt ge gu op le (upd fr (121 * sort + cell) sc) fw bh fd cc cs) := hD
      refine lv_aload_n hx hb dX0_offer_47 rfl (lv_at hl 1 rfl) ?_
      refine va_get (D := D) (ci := 0) (v := .ref (q 4)) (C := RX0) (T := TX0) (N := 12) hx hb hts in_X0 hown hK hP 0 rfl rfl 7 (by decide) (hts _ q37) (fun _ h9 => h9) rfl dX0_offer_48 ?_
      refine lv_iload hx hb dX0_offer_51 (lv_at hl 0 rfl) ?_
      refine lv_dup2_11 hx hb dX0_offer_53 rfl rfl ?_
      refine tw_iald hx hb hK hP 4 3 rfl rfl (by omega) (by decide) dX0_offer_54 ?_
      refine lv_iload hx hb dX0_offer_55 (lv_at hl 5 rfl) ?_
      refine lv_iadd hx hb dX0_offer_57 ?_
      refine tw_iast hx hb hK hP hD hS 4 3 rfl rfl (by omega) (by decide) dX0_offer_58 (fun H locs hP hD hS => ?_)
      have hP : va_P D vwCl (xw q d cn lt ge gu op le (upd fr (121 * sort + cell) sc) (upd fw (121 * sort + cell) (fw (121 * sort + cell) + w)) bh fd cc cs) H := hP
      have hD : va_D A (xw q d cn lt ge gu op le (upd fr (121 * sort + cell) sc) (upd fw (121 * sort + cell) (fw (121 * sort + cell) + w)) bh fd cc cs) := hD
      have hh : x_off (fr, fw) (121 * sort + cell) sc w = (upd fr (121 * sort + cell) sc, upd fw (121 * sort + cell) (fw (121 * sort + cell) + w)) := by
        unfold x_off
        rw [if_pos c_16, if_pos c_28]
      have hE : (xw q d cn lt ge gu op le (upd fr (121 * sort + cell) sc) (upd fw (121 * sort + cell) (fw (121 * sort + cell) + w)) bh fd cc cs) = (xw q d cn lt ge gu op le ((x_off (fr, fw) (121 * sort + cell) sc w).1) ((x_off (fr, fw) (121 * sort + cell) sc w).2) bh fd cc cs) := by simp only [hh]
      rw [hE] at hP hD
      clear hE
      exact tw_vret hx hb hr hlocks hK hP hD hS dX0_offer_59
    · 
      refine lv_aload_n hx hb dX0_offer_31 rfl (lv_at hl 1 rfl) ?_
      refine va_get (D := D) (ci := 0) (v := .ref (q 4)) (C := RX0) (T := TX0) (N := 12) hx hb hts in_X0 hown hK hP 0 rfl rfl 7 (by decide) (hts _ q37) (fun _ h9 => h9) rfl dX0_offer_32 ?_
      refine lv_iload hx hb dX0_offer_35 (lv_at hl 0 rfl) ?_
      refine lv_iconst (v := nI 0) hx hb dX0_offer_37 (by decide +kernel) ?_
      refine tw_iast hx hb hK hP hD hS 4 3 rfl rfl (by omega) (by decide) dX0_offer_38 (fun H locs hP hD hS => ?_)
      have hP : va_P D vwCl (xw q d cn lt ge gu op le fr (upd fw (121 * sort + cell) (nI 0)) bh fd cc cs) H := hP
      have hD : va_D A (xw q d cn lt ge gu op le fr (upd fw (121 * sort + cell) (nI 0)) bh fd cc cs) := hD
      refine lv_aload_n hx hb dX0_offer_39 rfl (lv_at hl 1 rfl) ?_
      refine va_get (D := D) (ci := 0) (v := .ref (q 3)) (C := RX0) (T := TX0) (N := 12) hx hb hts in_X0 hown hK hP 0 rfl rfl 6 (by decide) (hts _ q36) (fun _ h9 => h9) rfl dX0_offer_40 ?_
      refine lv_iload hx hb dX0_offer_43 (lv_at hl 0 rfl) ?_
      refine lv_iload_n hx hb dX0_offer_45 rfl (lv_at hl 4 rfl) ?_
      refine tw_iast hx hb hK hP hD hS 3 2 rfl rfl (by omega) (by decide) dX0_offer_46 (fun H locs hP hD hS => ?_)
      have hP : va_P D vwCl (xw q d cn lt ge gu op le (upd fr (121 * sort + cell) sc) (upd fw (121 * sort + cell) (nI 0)) bh fd cc cs) H := hP
      have hD : va_D A (xw q d cn lt ge gu op le (upd fr (121 * sort + cell) sc) (upd fw (121 * sort + cell) (nI 0)) bh fd cc cs) := hD
      refine lv_aload_n hx hb dX0_offer_47 rfl (lv_at hl 1 rfl) ?_
      refine va_get (D := D) (ci := 0) (v := .ref (q 4)) (C := RX0) (T := TX0) (N := 12) hx hb hts in_X0 hown hK hP 0 rfl rfl 7 (by decide) (hts _ q37) (fun _ h9 => h9) rfl dX0_offer_48 ?_
      refine lv_iload hx hb dX0_offer_51 (lv_at hl 0 rfl) ?_
      refine lv_dup2_11 hx hb dX0_offer_53 rfl rfl ?_
      refine tw_iald hx hb hK hP 4 3 rfl rfl (by omega) (by decide) dX0_offer_54 ?_
      refine lv_iload hx hb dX0_offer_55 (lv_at hl 5 rfl) ?_
      refine lv_iadd hx hb dX0_offer_57 ?_
      refine tw_iast hx hb hK hP hD hS 4 3 rfl rfl (by omega) (by decide) dX0_offer_58 (fun H locs hP hD hS => ?_)
      have hP : va_P D vwCl (xw q d cn lt ge gu op le (upd fr (121 * sort + cell) sc) (upd (upd fw (121 * sort + cell) (nI 0)) (121 * sort + cell) ((upd fw (121 * sort + cell) (nI 0)) (121 * sort + cell) + w)) bh fd cc cs) H := hP
      have hD : va_D A (xw q d cn lt ge gu op le (upd fr (121 * sort + cell) sc) (upd (upd fw (121 * sort + cell) (nI 0)) (121 * sort + cell) ((upd fw (121 * sort + cell) (nI 0)) (121 * sort + cell) + w)) bh fd cc cs) := hD
      have hh : x_off (fr, fw) (121 * sort + cell) sc w = (upd fr (121 * sort + cell) sc, upd fw (121 * sort + cell) (nI 0 + w)) := by
        unfold x_off
        rw [if_pos c_16, if_neg c_28]
      have hE : (xw q d cn lt ge gu op le (upd fr (121 * sort + cell) sc) (upd (upd fw (121 * sort + cell) (nI 0)) (121 * sort + cell) ((upd fw (121 * sort + cell) (nI 0)) (121 * sort + cell) + w)) bh fd cc cs) = (xw q d cn lt ge gu op le ((x_off (fr, fw) (121 * sort + cell) sc w).1) ((x_off (fr, fw) (121 * sort + cell) sc w).2) bh fd cc cs) := by simp only [hh, tw_upd_twice, pk_us]
      rw [hE] at hP hD
      clear hE
      exact tw_vret hx hb hr hlocks hK hP hD hS dX0_offer_59
  · 
    have hh : x_off (fr, fw) (121 * sort + cell) sc w = (fr, fw) := if_neg c_16
    have hE : (xw q d cn lt ge gu op le fr fw bh fd cc cs) = (xw q d cn lt ge gu op le ((x_off (fr, fw) (121 * sort + cell) sc w).1) ((x_off (fr, fw) (121 * sort + cell) sc w).2) bh fd cc cs) := by simp only [hh]
    rw [hE] at hP hD
    clear hE
    exact tw_vret hx hb hr hlocks hK hP hD hS dX0_offer_19
set_option maxHeartbeats 4000000 in
set_option maxRecDepth 100000 in
theorem kX0_extend (cell : Nat) (frm : Nat) (sort : Nat) (gn : Int32) (h1 : cell < 121) (h2 : frm < 121) (h3 : sort < 3) : Cv l yX0_extend cX0_extend 8 1 25 D vwCl (xt d) [.ref (q 0), .int (nI cell), .int (nI frm), .int (nI sort), .int gn] (xw q d cn lt ge gu op le fr fw bh fd cc cs) (xw q d cn lt ge gu op le ((x_ext op le gn cell frm sort 3 (fr, fw)).1) ((x_ext op le gn cell frm sort 3 (fr, fw)).2) bh fd cc cs) := by
  refine Cv.of (by decide +kernel) (Nat.le_of_ble_eq_true rfl) ?_
  intro p e s m below meth c A ls hx hb hr hlocks hml hown hts hK hP hD hS hA hl
  have hown : s.vm.findClass RX0 = some m.cls := hown
  have S : CallFix p m c cX0_extend 8 s ([.ref (q 0), .int (nI cell), .int (nI frm), .int (nI sort), .int gn] : List Value).toArray lw_all RX0 := ⟨hx, hb, hml, hown, hts⟩
  have hl : lv_has ls 8 [(0, .ref (q 0)), (1, .int (nI cell)), (2, .int (nI frm)), (3, .int (nI sort)), (4, .int gn)] := hl
  have loop : ∀ (n k : Nat), k ≤ 3 → 4 ≤ k + n → ∀ (H : Heap) (locs : List Loc) (ls : Array Slot), va_P D vwCl (xw q d cn lt ge gu op le ((x_ext op le gn cell frm sort k (fr, fw)).1) ((x_ext op le gn cell frm sort k (fr, fw)).2) bh fd cc cs) H → va_D A (xw q d cn lt ge gu op le ((x_ext op le gn cell frm sort k (fr, fw)).1) ((x_ext op le gn cell frm sort k (fr, fw)).2) bh fd cc cs) → va_S A s.heap H locs → lv_has ls 8 [(5, .int (nI k)), (0, .ref (q 0)), (1, .int (nI cell)), (2, .int (nI frm)), (3, .int (nI sort)), (4, .int gn)] → W p l e (tw_rm 1 25) s m ([.ref (q 0), .int (nI cell), .int (nI frm), .int (nI sort), .int gn] : List Value).toArray below meth c H locs 0 0 (MQ below (tw_Qv D vwCl (xt d) (xw q d cn lt ge gu op le ((x_ext op le gn cell frm sort 3 (fr, fw)).1) ((x_ext op le gn cell frm sort 3 (fr, fw)).2) bh fd cc cs) A) ([.ref (q 0), .int (nI cell), .int (nI frm), .int (nI sort), .int gn] : List Value).toArray s 0 0 A) (F0 m 3 ls []) := by
    intro n
    induction n with
    | zero => intro k hk hn; exact absurd hn (by omega)
    | succ n ih =>
      intro k hk hn H locs ls hP hD hS hl
      refine lv_iload hx hb dX0_extend_3 (lv_at hl 0 rfl) ?_
      refine lv_iconst (v := nI 3) hx hb dX0_extend_5 (by decide +kernel) ?_
      refine tw_icmp_ge (tgt := 74) hx hb (by omega) (by omega) dX0_extend_6 (by decide) (fun c_6 => ?_) (fun c_6 => ?_)
      · 
        have hk3 : k = 3 := by omega
        subst hk3
        exact tw_vret hx hb hr hlocks hK hP hD hS dX0_extend_74
      · 
        refine lv_aload_n hx hb dX0_extend_9 rfl (lv_at hl 1 rfl) ?_
        refine va_get (D := D) (ci := 0) (v := .ref (q 3)) (C := RX0) (T := TX0) (N := 12) hx hb hts in_X0 hown hK hP 0 rfl rfl 6 (by decide) (hts _ q36) (fun _ h9 => h9) rfl dX0_extend_10 ?_
        refine lv_bipush (v := nI 121) hx hb dX0_extend_13 (by decide +kernel) ?_
        refine lv_iload hx hb dX0_extend_15 (lv_at hl 0 rfl) ?_
        refine tw_imul hx hb dX0_extend_17 ?_
        refine lv_iload_n hx hb dX0_extend_18 rfl (lv_at hl 3 rfl) ?_
        refine tw_iadd hx hb dX0_extend_19 ?_
        refine tw_iald hx hb hK hP 3 2 rfl rfl (by omega) (by decide) dX0_extend_20 ?_
        refine lv_istore (lv' := [(6, .int (((x_ext op le gn cell frm sort k (fr, fw)).1) (121 * k + frm))), (5, .int (nI k)), (0, .ref (q 0)), (1, .int (nI cell)), (2, .int (nI frm)), (3, .int (nI sort)), (4, .int gn)]) hx hb dX0_extend_21 hl (by decide) rfl (fun ls hl => ?_)
        refine lv_iload hx hb dX0_extend_23 (lv_at hl 0 rfl) ?_
        refine lv_ldc (v := -100000) hx hb hown (hts _ q93) dX0_extend_25 ?_
        refine lv_icmp_gt (tgt := 33) hx hb dX0_extend_27 (by decide) (fun c_27 => ?_) (fun c_27 => ?_)
        · 
          refine lv_iload hx hb dX0_extend_33 (lv_at hl 0 rfl) ?_
          refine lv_iload hx hb dX0_extend_35 (lv_at hl 6 rfl) ?_
          refine lv_iadd hx hb dX0_extend_37 ?_
          refine lv_aload_n hx hb dX0_extend_38 rfl (lv_at hl 2 rfl) ?_
          refine lv_iload hx hb dX0_extend_39 (lv_at hl 1 rfl) ?_
          refine lv_iload_n hx hb dX0_extend_41 rfl (lv_at hl 5 rfl) ?_
          refine tw_calli (n := 2) (rest := [.int (((x_ext op le gn cell frm sort k (fr, fw)).1) (121 * k + frm) + gn)]) (wr := []) (w' := (xw q d cn lt ge gu op le ((x_ext op le gn cell frm sort k (fr, fw)).1) ((x_ext op le gn cell frm sort k (fr, fw)).2) bh fd cc cs)) (kX0_costOf l D q d cn lt ge gu op le ((x_ext op le gn cell frm sort k (fr, fw)).1) ((x_ext op le gn cell frm sort k (fr, fw)).2) bh fd cc cs k sort (by omega) (by omega)) S (lw_V q110 q112 qs6 q20 q113) (by decide +kernel) ⟨Nat.le_of_ble_eq_true rfl, Nat.le_of_ble_eq_true rfl⟩ hK hP hD hS hA [0, 1, 2, 3, 4, 5, 6] [] [0, 1, 2, 3, 4, 5] rfl rfl (by decide) (by decide) (fun i h => absurd h List.not_mem_nil) rfl (ci := 0) rfl (q0 := 0) rfl rfl rfl hl.1 (Nat.le_of_ble_eq_true rfl) dX0_extend_42 ⟨Nat.zero_le _, Nat.zero_le _⟩ (fun H locs hP hD hS => ?_)
          have hP : va_P D vwCl (xw q d cn lt ge gu op le ((x_ext op le gn cell frm sort k (fr, fw)).1) ((x_ext op le gn cell frm sort k (fr, fw)).2) bh fd cc cs) H := hP
          have hD : va_D A (xw q d cn lt ge gu op le ((x_ext op le gn cell frm sort k (fr, fw)).1) ((x_ext op le gn cell frm sort k (fr, fw)).2) bh fd cc cs) := hD
          refine lv_isub hx hb dX0_extend_45 ?_
          refine lv_istore (lv' := [(7, .int (((x_ext op le gn cell frm sort k (fr, fw)).1) (121 * k + frm) + gn - (x_cost op le k sort))), (6, .int (((x_ext op le gn cell frm sort k (fr, fw)).1) (121 * k + frm))), (5, .int (nI k)), (0, .ref (q 0)), (1, .int (nI cell)), (2, .int (nI frm)), (3, .int (nI sort)), (4, .int gn)]) hx hb dX0_extend_46 hl (by decide) rfl (fun ls hl => ?_)
          refine lv_aload_n hx hb dX0_extend_48 rfl (lv_at hl 3 rfl) ?_
          refine lv_iload_n hx hb dX0_extend_49 rfl (lv_at hl 4 rfl) ?_
          refine lv_iload_n hx hb dX0_extend_50 rfl (lv_at hl 6 rfl) ?_
          refine lv_iload hx hb dX0_extend_51 (lv_at hl 0 rfl) ?_
          refine lv_aload_n hx hb dX0_extend_53 rfl (lv_at hl 3 rfl) ?_
          refine va_get (D := D) (ci := 0) (v := .ref (q 4)) (C := RX0) (T := TX0) (N := 12) hx hb hts in_X0 hown hK hP 0 rfl rfl 7 (by decide) (hts _ q37) (fun _ h9 => h9) rfl dX0_extend_54 ?_
          refine lv_bipush (v := nI 121) hx hb dX0_extend_57 (by decide +kernel) ?_
          refine lv_iload hx hb dX0_extend_59 (lv_at hl 2 rfl) ?_
          refine tw_imul hx hb dX0_extend_61 ?_
          refine lv_iload_n hx hb dX0_extend_62 rfl (lv_at hl 5 rfl) ?_
          refine tw_iadd hx hb dX0_extend_63 ?_
          refine tw_iald hx hb hK hP 4 3 rfl rfl (by omega) (by decide) dX0_extend_64 ?_
          refine tw_callv (n := 4) (rest := []) (wr := []) (w' := (xw q d cn lt ge gu op le ((x_off (((x_ext op le gn cell frm sort k (fr, fw)).1), ((x_ext op le gn cell frm sort k (fr, fw)).2)) (121 * sort + cell) (((x_ext op le gn cell frm sort k (fr, fw)).1) (121 * k + frm) + gn - (x_cost op le k sort)) (((x_ext op le gn cell frm sort k (fr, fw)).2) (121 * k + frm))).1) ((x_off (((x_ext op le gn cell frm sort k (fr, fw)).1), ((x_ext op le gn cell frm sort k (fr, fw)).2)) (121 * sort + cell) (((x_ext op le gn cell frm sort k (fr, fw)).1) (121 * k + frm) + gn - (x_cost op le k sort)) (((x_ext op le gn cell frm sort k (fr, fw)).2) (121 * k + frm))).2) bh fd cc cs)) (kX0_offer l D q d cn lt ge gu op le ((x_ext op le gn cell frm sort k (fr, fw)).1) ((x_ext op le gn cell frm sort k (fr, fw)).2) bh fd cc cs cell sort (((x_ext op le gn cell frm sort k (fr, fw)).1) (121 * k + frm) + gn - (x_cost op le k sort)) (((x_ext op le gn cell frm sort k (fr, fw)).2) (121 * k + frm)) (by omega) (by omega)) S (lw_V q98 q100 qs3 q20 q101) (by decide +kernel) ⟨Nat.le_of_ble_eq_true rfl, Nat.le_of_ble_eq_true rfl⟩ hK hP hD hS hA [0, 1, 2, 3, 4, 5, 6] [] [0, 1, 2, 3, 4, 5] rfl rfl (by decide) (by decide) (fun i h => absurd h List.not_mem_nil) rfl (ci := 0) rfl (q0 := 0) rfl rfl rfl hl.1 (Nat.le_of_ble_eq_true rfl) dX0_extend_65 ⟨Nat.zero_le _, Nat.zero_le _⟩ (fun H locs hP hD hS => ?_)
          have hP : va_P D vwCl (xw q d cn lt ge gu op le ((x_off (((x_ext op le gn cell frm sort k (fr, fw)).1), ((x_ext op le gn cell frm sort k (fr, fw)).2)) (121 * sort + cell) (((x_ext op le gn cell frm sort k (fr, fw)).1) (121 * k + frm) + gn - (x_cost op le k sort)) (((x_ext op le gn cell frm sort k (fr, fw)).2) (121 * k + frm))).1) ((x_off (((x_ext op le gn cell frm sort k (fr, fw)).1), ((x_ext op le gn cell frm sort k (fr, fw)).2)) (121 * sort + cell) (((x_ext op le gn cell frm sort k (fr, fw)).1) (121 * k + frm) + gn - (x_cost op le k sort)) (((x_ext op le gn cell frm sort k (fr, fw)).2) (121 * k + frm))).2) bh fd cc cs) H := hP
          have hD : va_D A (xw q d cn lt ge gu op le ((x_off (((x_ext op le gn cell frm sort k (fr, fw)).1), ((x_ext op le gn cell frm sort k (fr, fw)).2)) (121 * sort + cell) (((x_ext op le gn cell frm sort k (fr, fw)).1) (121 * k + frm) + gn - (x_cost op le k sort)) (((x_ext op le gn cell frm sort k (fr, fw)).2) (121 * k + frm))).1) ((x_off (((x_ext op le gn cell frm sort k (fr, fw)).1), ((x_ext op le gn cell frm sort k (fr, fw)).2)) (121 * sort + cell) (((x_ext op le gn cell frm sort k (fr, fw)).1) (121 * k + frm) + gn - (x_cost op le k sort)) (((x_ext op le gn cell frm sort k (fr, fw)).2) (121 * k + frm))).2) bh fd cc cs) := hD
          refine tw_iinc (lv' := [(5, .int (nI (k + 1))), (7, .int (((x_ext op le gn cell frm sort k (fr, fw)).1) (121 * k + frm) + gn - (x_cost op le k sort))), (6, .int (((x_ext op le gn cell frm sort k (fr, fw)).1) (121 * k + frm))), (0, .ref (q 0)), (1, .int (nI cell)), (2, .int (nI frm)), (3, .int (nI sort)), (4, .int gn)]) hx hb dX0_extend_68 hl (k := 2) rfl (by decide) rfl (fun ls hl => ?_)
          refine lv_goto (tgt := 3) hx hb dX0_extend_71 (by decide) ?_
          have hh : x_ext op le gn cell frm sort (k + 1) (fr, fw) = x_off (x_ext op le gn cell frm sort k (fr, fw)) (121 * sort + cell) ((x_ext op le gn cell frm sort k (fr, fw)).1 (121 * k + frm) + gn - x_cost op le k sort) ((x_ext op le gn cell frm sort k (fr, fw)).2 (121 * k + frm)) := if_pos c_27
          have hE : (xw q d cn lt ge gu op le ((x_off (((x_ext op le gn cell frm sort k (fr, fw)).1), ((x_ext op le gn cell frm sort k (fr, fw)).2)) (121 * sort + cell) (((x_ext op le gn cell frm sort k (fr, fw)).1) (121 * k + frm) + gn - (x_cost op le k sort)) (((x_ext op le gn cell frm sort k (fr, fw)).2) (121 * k + frm))).1) ((x_off (((x_ext op le gn cell frm sort k (fr, fw)).1), ((x_ext op le gn cell frm sort k (fr, fw)).2)) (121 * sort + cell) (((x_ext op le gn cell frm sort k (fr, fw)).1) (121 * k + frm) + gn - (x_cost op le k sort)) (((x_ext op le gn cell frm sort k (fr, fw)).2) (121 * k + frm))).2) bh fd cc cs) = (xw q d cn lt ge gu op le ((x_ext op le gn cell frm sort (k + 1) (fr, fw)).1) ((x_ext op le gn cell frm sort (k + 1) (fr, fw)).2) bh fd cc cs) := by first | (rw [hh]; done) | (rw [hh]; rfl)
          rw [hE] at hP hD
          clear hE
          exact ih (k + 1) (by omega) (by omega) _ _ _ hP hD hS (lv_sub hl [0, 3, 4, 5, 6, 7] rfl)
        · 
          refine lv_goto (tgt := 68) hx hb dX0_extend_30 (by decide) ?_
          refine tw_iinc (lv' := [(5, .int (nI (k + 1))), (6, .int (((x_ext op le gn cell frm sort k (fr, fw)).1) (121 * k + frm))), (0, .ref (q 0)), (1, .int (nI cell)), (2, .int (nI frm)), (3, .int (nI sort)), (4, .int gn)]) hx hb dX0_extend_68 hl (k := 1) rfl (by decide) rfl (fun ls hl => ?_)
          refine lv_goto (tgt := 3) hx hb dX0_extend_71 (by decide) ?_
          have hh : x_ext op le gn cell frm sort (k + 1) (fr, fw) = x_ext op le gn cell frm sort k (fr, fw) := if_neg c_27
          have hE : (xw q d cn lt ge gu op le ((x_ext op le gn cell frm sort k (fr, fw)).1) ((x_ext op le gn cell frm sort k (fr, fw)).2) bh fd cc cs) = (xw q d cn lt ge gu op le ((x_ext op le gn cell frm sort (k + 1) (fr, fw)).1) ((x_ext op le gn cell frm sort (k + 1) (fr, fw)).2) bh fd cc cs) := by first | (rw [hh]; done) | (rw [hh]; rfl)
          rw [hE] at hP hD
          clear hE
          exact ih (k + 1) (by omega) (by omega) _ _ _ hP hD hS (lv_sub hl [0, 2, 3, 4, 5, 6] rfl)
  refine lv_iconst (v := nI 0) hx hb dX0_extend_0 (by decide +kernel) ?_
  refine lv_istore (lv' := [(5, .int (nI 0)), (0, .ref (q 0)), (1, .int (nI cell)), (2, .int (nI frm)), (3, .int (nI sort)), (4, .int gn)]) hx hb dX0_extend_1 hl (by decide) rfl (fun ls hl => ?_)
  exact loop 4 0 (by omega) (by omega) _ _ _ hP hD hS (lv_sub hl [0, 1, 2, 3, 4, 5] rfl)
set_option maxHeartbeats 4000000 in
set_option maxRecDepth 100000 in
theorem kX0_bestAt (i : Nat) (j : Nat) (h1 : i < 11) (h2 : j < 11) : Ci l yX0_bestAt cX0_bestAt 5 .int 0 0 D vwCl (xt d) [.ref (q 0), .int (nI i), .int (nI j)] (xw q d cn lt ge gu op le fr fw bh fd cc cs) (x_bat fr i j) (xw q d cn lt ge gu op le fr fw bh fd cc cs) := by
  refine Ci.of (by decide +kernel) (Nat.le_of_ble_eq_true rfl) ?_
  intro p e s m below meth c A ls hx hb hr hlocks hml hown hts hK hP hD hS hA hl
  have hown : s.vm.findClass RX0 = some m.cls := hown
  have S : CallFix p m c cX0_bestAt 5 s ([.ref (q 0), .int (nI i), .int (nI j)] : List Value).toArray lw_all RX0 := ⟨hx, hb, hml, hown, hts⟩
  have hl : lv_has ls 5 [(0, .ref (q 0)), (1, .int (nI i)), (2, .int (nI j))] := hl
  refine lv_bipush (v := nI 11) hx hb dX0_bestAt_0 (by decide +kernel) ?_
  refine lv_iload_n hx hb dX0_bestAt_2 rfl (lv_at hl 1 rfl) ?_
  refine tw_imul hx hb dX0_bestAt_3 ?_
  refine lv_iload_n hx hb dX0_bestAt_4 rfl (lv_at hl 2 rfl) ?_
  refine tw_iadd hx hb dX0_bestAt_5 ?_
  refine lv_istore_n (lv' := [(3, .int (nI (11 * i + j))), (0, .ref (q 0)), (1, .int (nI i)), (2, .int (nI j))]) hx hb dX0_bestAt_6 rfl hl (by decide) rfl (fun ls hl => ?_)
  refine lv_aload_n hx hb dX0_bestAt_7 rfl (lv_at hl 1 rfl) ?_
  refine va_get (D := D) (ci := 0) (v := .ref (q 3)) (C := RX0) (T := TX0) (N := 12) hx hb hts in_X0 hown hK hP 0 rfl rfl 6 (by decide) (hts _ q36) (fun _ h9 => h9) rfl dX0_bestAt_8 ?_
  refine lv_iload_n hx hb dX0_bestAt_11 rfl (lv_at hl 0 rfl) ?_
  refine tw_iald hx hb hK hP 3 2 rfl rfl (by omega) (by decide) dX0_bestAt_12 ?_
  refine lv_istore (lv' := [(4, .int (fr (11 * i + j))), (3, .int (nI (11 * i + j))), (0, .ref (q 0)), (1, .int (nI i)), (2, .int (nI j))]) hx hb dX0_bestAt_13 hl (by decide) rfl (fun ls hl => ?_)
  refine lv_aload_n hx hb dX0_bestAt_15 rfl (lv_at hl 2 rfl) ?_
  refine va_get (D := D) (ci := 0) (v := .ref (q 3)) (C := RX0) (T := TX0) (N := 12) hx hb hts in_X0 hown hK hP 0 rfl rfl 6 (by decide) (hts _ q36) (fun _ h9 => h9) rfl dX0_bestAt_16 ?_
  refine lv_bipush (v := nI 121) hx hb dX0_bestAt_19 (by decide +kernel) ?_
  refine lv_iload_n hx hb dX0_bestAt_21 rfl (lv_at hl 1 rfl) ?_
  refine tw_iadd hx hb dX0_bestAt_22 ?_
  refine tw_iald hx hb hK hP 3 2 rfl rfl (by omega) (by decide) dX0_bestAt_23 ?_
  refine lv_iload hx hb dX0_bestAt_24 (lv_at hl 0 rfl) ?_
  refine lv_icmp_le (tgt := 40) hx hb dX0_bestAt_26 (by decide) (fun c_26 => ?_) (fun c_26 => ?_)
  · 
    refine lv_aload_n hx hb dX0_bestAt_40 rfl (lv_at hl 2 rfl) ?_
    refine va_get (D := D) (ci := 0) (v := .ref (q 3)) (C := RX0) (T := TX0) (N := 12) hx hb hts in_X0 hown hK hP 0 rfl rfl 6 (by decide) (hts _ q36) (fun _ h9 => h9) rfl dX0_bestAt_41 ?_
    refine lv_sipush (v := nI 242) hx hb dX0_bestAt_44 (by decide +kernel) ?_
    refine lv_iload_n hx hb dX0_bestAt_47 rfl (lv_at hl 1 rfl) ?_
    refine tw_iadd hx hb dX0_bestAt_48 ?_
    refine tw_iald hx hb hK hP 3 2 rfl rfl (by omega) (by decide) dX0_bestAt_49 ?_
    refine lv_iload hx hb dX0_bestAt_50 (lv_at hl 0 rfl) ?_
    refine lv_icmp_le (tgt := 67) hx hb dX0_bestAt_52 (by decide) (fun c_52 => ?_) (fun c_52 => ?_)
    · 
      refine lv_iload hx hb dX0_bestAt_67 (lv_at hl 0 rfl) ?_
      exact tw_iret hx hb hr hlocks hK hP hD hS (by simp only [x_bat, al_max, if_pos c_26, if_pos c_52]) dX0_bestAt_69
    · 
      refine lv_aload_n hx hb dX0_bestAt_55 rfl (lv_at hl 2 rfl) ?_
      refine va_get (D := D) (ci := 0) (v := .ref (q 3)) (C := RX0) (T := TX0) (N := 12) hx hb hts in_X0 hown hK hP 0 rfl rfl 6 (by decide) (hts _ q36) (fun _ h9 => h9) rfl dX0_bestAt_56 ?_
      refine lv_sipush (v := nI 242) hx hb dX0_bestAt_59 (by decide +kernel) ?_
      refine lv_iload_n hx hb dX0_bestAt_62 rfl (lv_at hl 1 rfl) ?_
      refine tw_iadd hx hb dX0_bestAt_63 ?_
      refine tw_iald hx hb hK hP 3 2 rfl rfl (by omega) (by decide) dX0_bestAt_64 ?_
      refine lv_istore (lv' := [(4, .int (fr (242 + (11 * i + j)))), (3, .int (nI (11 * i + j))), (0, .ref (q 0)), (1, .int (nI i)), (2, .int (nI j))]) hx hb dX0_bestAt_65 hl (by decide) rfl (fun ls hl => ?_)
      refine lv_iload hx hb dX0_bestAt_67 (lv_at hl 0 rfl) ?_
      exact tw_iret hx hb hr hlocks hK hP hD hS (by simp only [x_bat, al_max, if_pos c_26, if_neg c_52]) dX0_bestAt_69
  · 
    refine lv_aload_n hx hb dX0_bestAt_29 rfl (lv_at hl 2 rfl) ?_
    refine va_get (D := D) (ci := 0) (v := .ref (q 3)) (C := RX0) (T := TX0) (N := 12) hx hb hts in_X0 hown hK hP 0 rfl rfl 6 (by decide) (hts _ q36) (fun _ h9 => h9) rfl dX0_bestAt_30 ?_
    refine lv_bipush (v := nI 121) hx hb dX0_bestAt_33 (by decide +kernel) ?_
    refine lv_iload_n hx hb dX0_bestAt_35 rfl (lv_at hl 1 rfl) ?_
    refine tw_iadd hx hb dX0_bestAt_36 ?_
    refine tw_iald hx hb hK hP 3 2 rfl rfl (by omega) (by decide) dX0_bestAt_37 ?_
    refine lv_istore (lv' := [(4, .int (fr (121 + (11 * i + j)))), (3, .int (nI (11 * i + j))), (0, .ref (q 0)), (1, .int (nI i)), (2, .int (nI j))]) hx hb dX0_bestAt_38 hl (by decide) rfl (fun ls hl => ?_)
    refine lv_aload_n hx hb dX0_bestAt_40 rfl (lv_at hl 2 rfl) ?_
    refine va_get (D := D) (ci := 0) (v := .ref (q 3)) (C := RX0) (T := TX0) (N := 12) hx hb hts in_X0 hown hK hP 0 rfl rfl 6 (by decide) (hts _ q36) (fun _ h9 => h9) rfl dX0_bestAt_41 ?_
    refine lv_sipush (v := nI 242) hx hb dX0_bestAt_44 (by decide +kernel) ?_
    refine lv_iload_n hx hb dX0_bestAt_47 rfl (lv_at hl 1 rfl) ?_
    refine tw_iadd hx hb dX0_bestAt_48 ?_
    refine tw_iald hx hb hK hP 3 2 rfl rfl (by omega) (by decide) dX0_bestAt_49 ?_
    refine lv_iload hx hb dX0_bestAt_50 (lv_at hl 0 rfl) ?_
    refine lv_icmp_le (tgt := 67) hx hb dX0_bestAt_52 (by decide) (fun c_52 => ?_) (fun c_52 => ?_)
    · 
      refine lv_iload hx hb dX0_bestAt_67 (lv_at hl 0 rfl) ?_
      exact tw_iret hx hb hr hlocks hK hP hD hS (by simp only [x_bat, al_max, if_neg c_26, if_pos c_52]) dX0_bestAt_69
    · 
      refine lv_aload_n hx hb dX0_bestAt_55 rfl (lv_at hl 2 rfl) ?_
      refine va_get (D := D) (ci := 0) (v := .ref (q 3)) (C := RX0) (T := TX0) (N := 12) hx hb hts in_X0 hown hK hP 0 rfl rfl 6 (by decide) (hts _ q36) (fun _ h9 => h9) rfl dX0_bestAt_56 ?_
      refine lv_sipush (v := nI 242) hx hb dX0_bestAt_59 (by decide +kernel) ?_
      refine lv_iload_n hx hb dX0_bestAt_62 rfl (lv_at hl 1 rfl) ?_
      refine tw_iadd hx hb dX0_bestAt_63 ?_
      refine tw_iald hx hb hK hP 3 2 rfl rfl (by omega) (by decide) dX0_bestAt_64 ?_
      refine lv_istore (lv' := [(4, .int (fr (242 + (11 * i + j)))), (3, .int (nI (11 * i + j))), (0, .ref (q 0)), (1, .int (nI i)), (2, .int (nI j))]) hx hb dX0_bestAt_65 hl (by decide) rfl (fun ls hl => ?_)
      refine lv_iload hx hb dX0_bestAt_67 (lv_at hl 0 rfl) ?_
      exact tw_iret hx hb hr hlocks hK hP hD hS (by simp only [x_bat, al_max, if_neg c_26, if_neg c_52]) dX0_bestAt_69
end
end
section
/-! THE COMPONENT: the tables from the front; best, ways, local, fitted, overlap -/
section
variable (l : Launch) (D : va_G) (q : Nat → Nat) (d : Nat → ClassId) (cn : Nat → Nat) (lt : Nat → Int32) (ge gu op le : Int32) (fr fw bh : Nat → Int32) (fd cc : Nat) (cs : Nat → Int32)
set_option maxHeartbeats 4000000 in
set_option maxRecDepth 100000 in
theorem kX0_fillCell (i : Nat) (j : Nat) (h1 : i < 11) (h2 : j < 11) (h3 : fd < 4) : Cv l yX0_fillCell cX0_fillCell 5 2 52 D vwCl (xt d) [.ref (q 0), .int (nI i), .int (nI j)] (xw q d cn lt ge gu op le fr fw bh fd cc cs) (xw q d cn lt ge gu op le ((x_cel lt ge gu op le fd i j (fr, fw)).1) ((x_cel lt ge gu op le fd i j (fr, fw)).2) bh fd cc cs) := by
  refine Cv.of (by decide +kernel) (Nat.le_of_ble_eq_true rfl) ?_
  intro p e s m below meth c A ls hx hb hr hlocks hml hown hts hK hP hD hS hA hl
  have hown : s.vm.findClass RX0 = some m.cls := hown
  have S : CallFix p m c cX0_fillCell 5 s ([.ref (q 0), .int (nI i), .int (nI j)] : List Value).toArray lw_all RX0 := ⟨hx, hb, hml, hown, hts⟩
  have hl : lv_has ls 5 [(0, .ref (q 0)), (1, .int (nI i)), (2, .int (nI j))] := hl
  have j66 : ∀ (H : Heap) (locs : List Loc) (ls : Array Slot), va_P D vwCl (xw q d cn lt ge gu op le ((x_c2 fd i j (fr, fw)).1) ((x_c2 fd i j (fr, fw)).2) bh fd cc cs) H → va_D A (xw q d cn lt ge gu op le ((x_c2 fd i j (fr, fw)).1) ((x_c2 fd i j (fr, fw)).2) bh fd cc cs) → va_S A s.heap H locs → lv_has ls 5 [(3, .int (nI (11 * i + j))), (0, .ref (q 0)), (1, .int (nI i)), (2, .int (nI j))] → W p l e (tw_rm 2 52) s m ([.ref (q 0), .int (nI i), .int (nI j)] : List Value).toArray below meth c H locs 0 0 (MQ below (tw_Qv D vwCl (xt d) (xw q d cn lt ge gu op le ((x_cel lt ge gu op le fd i j (fr, fw)).1) ((x_cel lt ge gu op le fd i j (fr, fw)).2) bh fd cc cs) A) ([.ref (q 0), .int (nI i), .int (nI j)] : List Value).toArray s 0 0 A) (F0 m 66 ls []) := by
    intro H locs ls hP hD hS hl
    rcases Nat.eq_zero_or_pos i with hi0 | hi0
    · 
      have e3 : x_c3 lt ge gu op le fd i j (fr, fw) = x_c2 fd i j (fr, fw) := if_neg (by omega)
      have e4 : x_c4 lt ge gu op le fd i j (fr, fw) = x_c3 lt ge gu op le fd i j (fr, fw) := if_neg (by omega)
      rcases Nat.eq_zero_or_pos j with hj0 | hj0
      · 
        have e5 : x_cel lt ge gu op le fd i j (fr, fw) = x_c4 lt ge gu op le fd i j (fr, fw) := if_neg (by omega)
        refine lv_iload_n hx hb dX0_fillCell_66 rfl (lv_at hl 2 rfl) ?_
        refine tw_if_le (tgt := 87) hx hb (by omega) dX0_fillCell_67 (by decide) (fun c_67 => ?_) (fun c_67 => False.elim (by omega))
        refine lv_iconst (v := nI 0) hx hb dX0_fillCell_87 (by decide +kernel) ?_
        refine lv_istore (lv' := [(4, .int (nI 0)), (3, .int (nI (11 * i + j))), (0, .ref (q 0)), (1, .int (nI i)), (2, .int (nI j))]) hx hb dX0_fillCell_88 hl (by decide) rfl (fun ls hl => ?_)
        refine lv_iload_n hx hb dX0_fillCell_90 rfl (lv_at hl 3 rfl) ?_
        refine tw_if_le (tgt := 112) hx hb (by omega) dX0_fillCell_91 (by decide) (fun c_91 => ?_) (fun c_91 => False.elim (by omega))
        refine lv_iload_n hx hb dX0_fillCell_112 rfl (lv_at hl 3 rfl) ?_
        refine tw_if_le (tgt := 127) hx hb (by omega) dX0_fillCell_113 (by decide) (fun c_113 => ?_) (fun c_113 => False.elim (by omega))
        refine lv_iload_n hx hb dX0_fillCell_127 rfl (lv_at hl 4 rfl) ?_
        refine tw_if_le (tgt := 141) hx hb (by omega) dX0_fillCell_128 (by decide) (fun c_128 => ?_) (fun c_128 => False.elim (by omega))
        have hE : (xw q d cn lt ge gu op le ((x_c2 fd i j (fr, fw)).1) ((x_c2 fd i j (fr, fw)).2) bh fd cc cs) = (xw q d cn lt ge gu op le ((x_cel lt ge gu op le fd i j (fr, fw)).1) ((x_cel lt ge gu op le fd i j (fr, fw)).2) bh fd cc cs) := by rw [e5, e4, e3]
        rw [hE] at hP hD
        clear hE
        exact tw_vret hx hb hr hlocks hK hP hD hS dX0_fillCell_141
      · 
        have e5 : x_cel lt ge gu op le fd i j (fr, fw) = x_ext op le (nI 0) (11 * i + j) (11 * i + j - 1) 2 3 (x_c4 lt ge gu op le fd i j (fr, fw)) := if_pos hj0
        refine lv_iload_n hx hb dX0_fillCell_66 rfl (lv_at hl 2 rfl) ?_
        refine tw_if_le (tgt := 87) hx hb (by omega) dX0_fillCell_67 (by decide) (fun c_67 => ?_) (fun c_67 => False.elim (by omega))
        refine lv_iconst (v := nI 0) hx hb dX0_fillCell_87 (by decide +kernel) ?_
        refine lv_istore (lv' := [(4, .int (nI 0)), (3, .int (nI (11 * i + j))), (0, .ref (q 0)), (1, .int (nI i)), (2, .int (nI j))]) hx hb dX0_fillCell_88 hl (by decide) rfl (fun ls hl => ?_)
        refine lv_iload_n hx hb dX0_fillCell_90 rfl (lv_at hl 3 rfl) ?_
        refine tw_if_le (tgt := 112) hx hb (by omega) dX0_fillCell_91 (by decide) (fun c_91 => ?_) (fun c_91 => False.elim (by omega))
        refine lv_iload_n hx hb dX0_fillCell_112 rfl (lv_at hl 3 rfl) ?_
        refine tw_if_le (tgt := 127) hx hb (by omega) dX0_fillCell_113 (by decide) (fun c_113 => ?_) (fun c_113 => False.elim (by omega))
        refine lv_iload_n hx hb dX0_fillCell_127 rfl (lv_at hl 4 rfl) ?_
        refine tw_if_le (tgt := 141) hx hb (by omega) dX0_fillCell_128 (by decide) (fun c_128 => False.elim (by omega)) (fun c_128 => ?_)
        refine lv_aload_n hx hb dX0_fillCell_131 rfl (lv_at hl 2 rfl) ?_
        refine lv_iload_n hx hb dX0_fillCell_132 rfl (lv_at hl 1 rfl) ?_
        refine lv_iload_n hx hb dX0_fillCell_133 rfl (lv_at hl 1 rfl) ?_
        refine lv_iconst (v := nI 1) hx hb dX0_fillCell_134 (by decide +kernel) ?_
        refine tw_isub hx hb (by omega) dX0_fillCell_135 ?_
        refine lv_iconst (v := nI 2) hx hb dX0_fillCell_136 (by decide +kernel) ?_
        refine lv_iconst (v := nI 0) hx hb dX0_fillCell_137 (by decide +kernel) ?_
        refine tw_callv (n := 4) (rest := []) (wr := []) (w' := (xw q d cn lt ge gu op le ((x_ext op le (nI 0) (11 * i + j) ((11 * i + j) - 1) 2 3 (((x_c2 fd i j (fr, fw)).1), ((x_c2 fd i j (fr, fw)).2))).1) ((x_ext op le (nI 0) (11 * i + j) ((11 * i + j) - 1) 2 3 (((x_c2 fd i j (fr, fw)).1), ((x_c2 fd i j (fr, fw)).2))).2) bh fd cc cs)) (kX0_extend l D q d cn lt ge gu op le ((x_c2 fd i j (fr, fw)).1) ((x_c2 fd i j (fr, fw)).2) bh fd cc cs (11 * i + j) ((11 * i + j) - 1) 2 (nI 0) (by omega) (by omega) (by omega)) S (lw_V q106 q108 qs5 q20 q109) (by decide +kernel) ⟨Nat.le_of_ble_eq_true rfl, Nat.le_of_ble_eq_true rfl⟩ hK hP hD hS hA [0, 1, 2, 3, 4, 5, 6] [] [0, 1, 2, 3, 4, 5] rfl rfl (by decide) (by decide) (fun i h => absurd h List.not_mem_nil) rfl (ci := 0) rfl (q0 := 0) rfl rfl rfl hl.1 (Nat.le_of_ble_eq_true rfl) dX0_fillCell_138 ⟨Nat.zero_le _, Nat.zero_le _⟩ (fun H locs hP hD hS => ?_)
        have hP : va_P D vwCl (xw q d cn lt ge gu op le ((x_ext op le (nI 0) (11 * i + j) ((11 * i + j) - 1) 2 3 (((x_c2 fd i j (fr, fw)).1), ((x_c2 fd i j (fr, fw)).2))).1) ((x_ext op le (nI 0) (11 * i + j) ((11 * i + j) - 1) 2 3 (((x_c2 fd i j (fr, fw)).1), ((x_c2 fd i j (fr, fw)).2))).2) bh fd cc cs) H := hP
        have hD : va_D A (xw q d cn lt ge gu op le ((x_ext op le (nI 0) (11 * i + j) ((11 * i + j) - 1) 2 3 (((x_c2 fd i j (fr, fw)).1), ((x_c2 fd i j (fr, fw)).2))).1) ((x_ext op le (nI 0) (11 * i + j) ((11 * i + j) - 1) 2 3 (((x_c2 fd i j (fr, fw)).1), ((x_c2 fd i j (fr, fw)).2))).2) bh fd cc cs) := hD
        have hE : (xw q d cn lt ge gu op le ((x_ext op le (nI 0) (11 * i + j) ((11 * i + j) - 1) 2 3 (((x_c2 fd i j (fr, fw)).1), ((x_c2 fd i j (fr, fw)).2))).1) ((x_ext op le (nI 0) (11 * i + j) ((11 * i + j) - 1) 2 3 (((x_c2 fd i j (fr, fw)).1), ((x_c2 fd i j (fr, fw)).2))).2) bh fd cc cs) = (xw q d cn lt ge gu op le ((x_cel lt ge gu op le fd i j (fr, fw)).1) ((x_cel lt ge gu op le fd i j (fr, fw)).2) bh fd cc cs) := by first | (rw [e5, e4, e3]; done) | (rw [e5, e4, e3]; rfl)
        rw [hE] at hP hD
        clear hE
        exact tw_vret hx hb hr hlocks hK hP hD hS dX0_fillCell_141
    · 
      have e4 : x_c4 lt ge gu op le fd i j (fr, fw) = x_ext op le (nI 0) (11 * i + j) (11 * i + j - 11) 1 3 (x_c3 lt ge gu op le fd i j (fr, fw)) := if_pos hi0
      rcases Nat.eq_zero_or_pos j with hj0 | hj0
      · 
        have e3 : x_c3 lt ge gu op le fd i j (fr, fw) = x_c2 fd i j (fr, fw) := if_neg (by omega)
        have e5 : x_cel lt ge gu op le fd i j (fr, fw) = x_c4 lt ge gu op le fd i j (fr, fw) := if_neg (by omega)
        refine lv_iload_n hx hb dX0_fillCell_66 rfl (lv_at hl 2 rfl) ?_
        refine tw_if_le (tgt := 87) hx hb (by omega) dX0_fillCell_67 (by decide) (fun c_67 => False.elim (by omega)) (fun c_67 => ?_)
        refine lv_iload_n hx hb dX0_fillCell_70 rfl (lv_at hl 3 rfl) ?_
        refine tw_if_le (tgt := 87) hx hb (by omega) dX0_fillCell_71 (by decide) (fun c_71 => ?_) (fun c_71 => False.elim (by omega))
        refine lv_iconst (v := nI 0) hx hb dX0_fillCell_87 (by decide +kernel) ?_
        refine lv_istore (lv' := [(4, .int (nI 0)), (3, .int (nI (11 * i + j))), (0, .ref (q 0)), (1, .int (nI i)), (2, .int (nI j))]) hx hb dX0_fillCell_88 hl (by decide) rfl (fun ls hl => ?_)
        refine lv_iload_n hx hb dX0_fillCell_90 rfl (lv_at hl 3 rfl) ?_
        refine tw_if_le (tgt := 112) hx hb (by omega) dX0_fillCell_91 (by decide) (fun c_91 => False.elim (by omega)) (fun c_91 => ?_)
        refine lv_iload_n hx hb dX0_fillCell_94 rfl (lv_at hl 4 rfl) ?_
        refine tw_if_le (tgt := 112) hx hb (by omega) dX0_fillCell_95 (by decide) (fun c_95 => ?_) (fun c_95 => False.elim (by omega))
        refine lv_iload_n hx hb dX0_fillCell_112 rfl (lv_at hl 3 rfl) ?_
        refine tw_if_le (tgt := 127) hx hb (by omega) dX0_fillCell_113 (by decide) (fun c_113 => False.elim (by omega)) (fun c_113 => ?_)
        refine lv_aload_n hx hb dX0_fillCell_116 rfl (lv_at hl 2 rfl) ?_
        refine lv_iload_n hx hb dX0_fillCell_117 rfl (lv_at hl 1 rfl) ?_
        refine lv_iload_n hx hb dX0_fillCell_118 rfl (lv_at hl 1 rfl) ?_
        refine lv_bipush (v := nI 11) hx hb dX0_fillCell_119 (by decide +kernel) ?_
        refine tw_isub hx hb (by omega) dX0_fillCell_121 ?_
        refine lv_iconst (v := nI 1) hx hb dX0_fillCell_122 (by decide +kernel) ?_
        refine lv_iconst (v := nI 0) hx hb dX0_fillCell_123 (by decide +kernel) ?_
        refine tw_callv (n := 4) (rest := []) (wr := []) (w' := (xw q d cn lt ge gu op le ((x_ext op le (nI 0) (11 * i + j) ((11 * i + j) - 11) 1 3 (((x_c2 fd i j (fr, fw)).1), ((x_c2 fd i j (fr, fw)).2))).1) ((x_ext op le (nI 0) (11 * i + j) ((11 * i + j) - 11) 1 3 (((x_c2 fd i j (fr, fw)).1), ((x_c2 fd i j (fr, fw)).2))).2) bh fd cc cs)) (kX0_extend l D q d cn lt ge gu op le ((x_c2 fd i j (fr, fw)).1) ((x_c2 fd i j (fr, fw)).2) bh fd cc cs (11 * i + j) ((11 * i + j) - 11) 1 (nI 0) (by omega) (by omega) (by omega)) S (lw_V q106 q108 qs5 q20 q109) (by decide +kernel) ⟨Nat.le_of_ble_eq_true rfl, Nat.le_of_ble_eq_true rfl⟩ hK hP hD hS hA [0, 1, 2, 3, 4, 5, 6] [] [0, 1, 2, 3, 4, 5] rfl rfl (by decide) (by decide) (fun i h => absurd h List.not_mem_nil) rfl (ci := 0) rfl (q0 := 0) rfl rfl rfl hl.1 (Nat.le_of_ble_eq_true rfl) dX0_fillCell_124 ⟨Nat.zero_le _, Nat.zero_le _⟩ (fun H locs hP hD hS => ?_)
        have hP : va_P D vwCl (xw q d cn lt ge gu op le ((x_ext op le (nI 0) (11 * i + j) ((11 * i + j) - 11) 1 3 (((x_c2 fd i j (fr, fw)).1), ((x_c2 fd i j (fr, fw)).2))).1) ((x_ext op le (nI 0) (11 * i + j) ((11 * i + j) - 11) 1 3 (((x_c2 fd i j (fr, fw)).1), ((x_c2 fd i j (fr, fw)).2))).2) bh fd cc cs) H := hP
        have hD : va_D A (xw q d cn lt ge gu op le ((x_ext op le (nI 0) (11 * i + j) ((11 * i + j) - 11) 1 3 (((x_c2 fd i j (fr, fw)).1), ((x_c2 fd i j (fr, fw)).2))).1) ((x_ext op le (nI 0) (11 * i + j) ((11 * i + j) - 11) 1 3 (((x_c2 fd i j (fr, fw)).1), ((x_c2 fd i j (fr, fw)).2))).2) bh fd cc cs) := hD
        refine lv_iload_n hx hb dX0_fillCell_127 rfl (lv_at hl 4 rfl) ?_
        refine tw_if_le (tgt := 141) hx hb (by omega) dX0_fillCell_128 (by decide) (fun c_128 => ?_) (fun c_128 => False.elim (by omega))
        have hE : (xw q d cn lt ge gu op le ((x_ext op le (nI 0) (11 * i + j) ((11 * i + j) - 11) 1 3 (((x_c2 fd i j (fr, fw)).1), ((x_c2 fd i j (fr, fw)).2))).1) ((x_ext op le (nI 0) (11 * i + j) ((11 * i + j) - 11) 1 3 (((x_c2 fd i j (fr, fw)).1), ((x_c2 fd i j (fr, fw)).2))).2) bh fd cc cs) = (xw q d cn lt ge gu op le ((x_cel lt ge gu op le fd i j (fr, fw)).1) ((x_cel lt ge gu op le fd i j (fr, fw)).2) bh fd cc cs) := by first | (rw [e5, e4, e3]; done) | (rw [e5, e4, e3]; rfl)
        rw [hE] at hP hD
        clear hE
        exact tw_vret hx hb hr hlocks hK hP hD hS dX0_fillCell_141
      · 
        have e3 : x_c3 lt ge gu op le fd i j (fr, fw) = x_ext op le (x_gain lt ge gu (i - 1) (j - 1)) (11 * i + j) (11 * i + j - 11 - 1) 0 3 (x_c2 fd i j (fr, fw)) := if_pos ⟨hi0, hj0⟩
        have e5 : x_cel lt ge gu op le fd i j (fr, fw) = x_ext op le (nI 0) (11 * i + j) (11 * i + j - 1) 2 3 (x_c4 lt ge gu op le fd i j (fr, fw)) := if_pos hj0
        refine lv_iload_n hx hb dX0_fillCell_66 rfl (lv_at hl 2 rfl) ?_
        refine tw_if_le (tgt := 87) hx hb (by omega) dX0_fillCell_67 (by decide) (fun c_67 => False.elim (by omega)) (fun c_67 => ?_)
        refine lv_iload_n hx hb dX0_fillCell_70 rfl (lv_at hl 3 rfl) ?_
        refine tw_if_le (tgt := 87) hx hb (by omega) dX0_fillCell_71 (by decide) (fun c_71 => False.elim (by omega)) (fun c_71 => ?_)
        refine lv_aload_n hx hb dX0_fillCell_74 rfl (lv_at hl 1 rfl) ?_
        refine lv_iload_n hx hb dX0_fillCell_75 rfl (lv_at hl 2 rfl) ?_
        refine lv_iconst (v := nI 1) hx hb dX0_fillCell_76 (by decide +kernel) ?_
        refine tw_isub hx hb (by omega) dX0_fillCell_77 ?_
        refine lv_iload_n hx hb dX0_fillCell_78 rfl (lv_at hl 3 rfl) ?_
        refine lv_iconst (v := nI 1) hx hb dX0_fillCell_79 (by decide +kernel) ?_
        refine tw_isub hx hb (by omega) dX0_fillCell_80 ?_
        refine tw_calli (n := 2) (rest := []) (wr := []) (w' := (xw q d cn lt ge gu op le ((x_c2 fd i j (fr, fw)).1) ((x_c2 fd i j (fr, fw)).2) bh fd cc cs)) (kX0_gain l D q d cn lt ge gu op le ((x_c2 fd i j (fr, fw)).1) ((x_c2 fd i j (fr, fw)).2) bh fd cc cs (i - 1) (j - 1) (by omega) (by omega)) S (lw_V q102 q104 qs4 q20 q105) (by decide +kernel) ⟨Nat.le_of_ble_eq_true rfl, Nat.le_of_ble_eq_true rfl⟩ hK hP hD hS hA [0, 1, 2, 3, 4, 5, 6] [] [0, 1, 2, 3, 4, 5] rfl rfl (by decide) (by decide) (fun i h => absurd h List.not_mem_nil) rfl (ci := 0) rfl (q0 := 0) rfl rfl rfl hl.1 (Nat.le_of_ble_eq_true rfl) dX0_fillCell_81 ⟨Nat.zero_le _, Nat.zero_le _⟩ (fun H locs hP hD hS => ?_)
        have hP : va_P D vwCl (xw q d cn lt ge gu op le ((x_c2 fd i j (fr, fw)).1) ((x_c2 fd i j (fr, fw)).2) bh fd cc cs) H := hP
        have hD : va_D A (xw q d cn lt ge gu op le ((x_c2 fd i j (fr, fw)).1) ((x_c2 fd i j (fr, fw)).2) bh fd cc cs) := hD
        refine lv_goto (tgt := 88) hx hb dX0_fillCell_84 (by decide) ?_
        refine lv_istore (lv' := [(4, .int (x_gain lt ge gu (i - 1) (j - 1))), (3, .int (nI (11 * i + j))), (0, .ref (q 0)), (1, .int (nI i)), (2, .int (nI j))]) hx hb dX0_fillCell_88 hl (by decide) rfl (fun ls hl => ?_)
        refine lv_iload_n hx hb dX0_fillCell_90 rfl (lv_at hl 3 rfl) ?_
        refine tw_if_le (tgt := 112) hx hb (by omega) dX0_fillCell_91 (by decide) (fun c_91 => False.elim (by omega)) (fun c_91 => ?_)
        refine lv_iload_n hx hb dX0_fillCell_94 rfl (lv_at hl 4 rfl) ?_
        refine tw_if_le (tgt := 112) hx hb (by omega) dX0_fillCell_95 (by decide) (fun c_95 => False.elim (by omega)) (fun c_95 => ?_)
        refine lv_aload_n hx hb dX0_fillCell_98 rfl (lv_at hl 2 rfl) ?_
        refine lv_iload_n hx hb dX0_fillCell_99 rfl (lv_at hl 1 rfl) ?_
        refine lv_iload_n hx hb dX0_fillCell_100 rfl (lv_at hl 1 rfl) ?_
        refine lv_bipush (v := nI 11) hx hb dX0_fillCell_101 (by decide +kernel) ?_
        refine tw_isub hx hb (by omega) dX0_fillCell_103 ?_
        refine lv_iconst (v := nI 1) hx hb dX0_fillCell_104 (by decide +kernel) ?_
        refine tw_isub hx hb (by omega) dX0_fillCell_105 ?_
        refine lv_iconst (v := nI 0) hx hb dX0_fillCell_106 (by decide +kernel) ?_
        refine lv_iload hx hb dX0_fillCell_107 (lv_at hl 0 rfl) ?_
        refine tw_callv (n := 4) (rest := []) (wr := []) (w' := (xw q d cn lt ge gu op le ((x_ext op le (x_gain lt ge gu (i - 1) (j - 1)) (11 * i + j) ((11 * i + j) - 11 - 1) 0 3 (((x_c2 fd i j (fr, fw)).1), ((x_c2 fd i j (fr, fw)).2))).1) ((x_ext op le (x_gain lt ge gu (i - 1) (j - 1)) (11 * i + j) ((11 * i + j) - 11 - 1) 0 3 (((x_c2 fd i j (fr, fw)).1), ((x_c2 fd i j (fr, fw)).2))).2) bh fd cc cs)) (kX0_extend l D q d cn lt ge gu op le ((x_c2 fd i j (fr, fw)).1) ((x_c2 fd i j (fr, fw)).2) bh fd cc cs (11 * i + j) ((11 * i + j) - 11 - 1) 0 (x_gain lt ge gu (i - 1) (j - 1)) (by omega) (by omega) (by omega)) S (lw_V q106 q108 qs5 q20 q109) (by decide +kernel) ⟨Nat.le_of_ble_eq_true rfl, Nat.le_of_ble_eq_true rfl⟩ hK hP hD hS hA [0, 1, 2, 3, 4, 5, 6] [] [0, 1, 2, 3, 4, 5] rfl rfl (by decide) (by decide) (fun i h => absurd h List.not_mem_nil) rfl (ci := 0) rfl (q0 := 0) rfl rfl rfl hl.1 (Nat.le_of_ble_eq_true rfl) dX0_fillCell_109 ⟨Nat.zero_le _, Nat.zero_le _⟩ (fun H locs hP hD hS => ?_)
        have hP : va_P D vwCl (xw q d cn lt ge gu op le ((x_ext op le (x_gain lt ge gu (i - 1) (j - 1)) (11 * i + j) ((11 * i + j) - 11 - 1) 0 3 (((x_c2 fd i j (fr, fw)).1), ((x_c2 fd i j (fr, fw)).2))).1) ((x_ext op le (x_gain lt ge gu (i - 1) (j - 1)) (11 * i + j) ((11 * i + j) - 11 - 1) 0 3 (((x_c2 fd i j (fr, fw)).1), ((x_c2 fd i j (fr, fw)).2))).2) bh fd cc cs) H := hP
        have hD : va_D A (xw q d cn lt ge gu op le ((x_ext op le (x_gain lt ge gu (i - 1) (j - 1)) (11 * i + j) ((11 * i + j) - 11 - 1) 0 3 (((x_c2 fd i j (fr, fw)).1), ((x_c2 fd i j (fr, fw)).2))).1) ((x_ext op le (x_gain lt ge gu (i - 1) (j - 1)) (11 * i + j) ((11 * i + j) - 11 - 1) 0 3 (((x_c2 fd i j (fr, fw)).1), ((x_c2 fd i j (fr, fw)).2))).2) bh fd cc cs) := hD
        have hE : (xw q d cn lt ge gu op le ((x_ext op le (x_gain lt ge gu (i - 1) (j - 1)) (11 * i + j) ((11 * i + j) - 11 - 1) 0 3 (((x_c2 fd i j (fr, fw)).1), ((x_c2 fd i j (fr, fw)).2))).1) ((x_ext op le (x_gain lt ge gu (i - 1) (j - 1)) (11 * i + j) ((11 * i + j) - 11 - 1) 0 3 (((x_c2 fd i j (fr, fw)).1), ((x_c2 fd i j (fr, fw)).2))).2) bh fd cc cs) = (xw q d cn lt ge gu op le ((x_c3 lt ge gu op le fd i j (fr, fw)).1) ((x_c3 lt ge gu op le fd i j (fr, fw)).2) bh fd cc cs) := by first | (rw [e3]; done) | (rw [e3]; rfl)
        rw [hE] at hP hD
        clear hE
        refine lv_iload_n hx hb dX0_fillCell_112 rfl (lv_at hl 3 rfl) ?_
        refine tw_if_le (tgt := 127) hx hb (by omega) dX0_fillCell_113 (by decide) (fun c_113 => False.elim (by omega)) (fun c_113 => ?_)
        refine lv_aload_n hx hb dX0_fillCell_116 rfl (lv_at hl 2 rfl) ?_
        refine lv_iload_n hx hb dX0_fillCell_117 rfl (lv_at hl 1 rfl) ?_
        refine lv_iload_n hx hb dX0_fillCell_118 rfl (lv_at hl 1 rfl) ?_
        refine lv_bipush (v := nI 11) hx hb dX0_fillCell_119 (by decide +kernel) ?_
        refine tw_isub hx hb (by omega) dX0_fillCell_121 ?_
        refine lv_iconst (v := nI 1) hx hb dX0_fillCell_122 (by decide +kernel) ?_
        refine lv_iconst (v := nI 0) hx hb dX0_fillCell_123 (by decide +kernel) ?_
        refine tw_callv (n := 4) (rest := []) (wr := []) (w' := (xw q d cn lt ge gu op le ((x_ext op le (nI 0) (11 * i + j) ((11 * i + j) - 11) 1 3 (((x_c3 lt ge gu op le fd i j (fr, fw)).1), ((x_c3 lt ge gu op le fd i j (fr, fw)).2))).1) ((x_ext op le (nI 0) (11 * i + j) ((11 * i + j) - 11) 1 3 (((x_c3 lt ge gu op le fd i j (fr, fw)).1), ((x_c3 lt ge gu op le fd i j (fr, fw)).2))).2) bh fd cc cs)) (kX0_extend l D q d cn lt ge gu op le ((x_c3 lt ge gu op le fd i j (fr, fw)).1) ((x_c3 lt ge gu op le fd i j (fr, fw)).2) bh fd cc cs (11 * i + j) ((11 * i + j) - 11) 1 (nI 0) (by omega) (by omega) (by omega)) S (lw_V q106 q108 qs5 q20 q109) (by decide +kernel) ⟨Nat.le_of_ble_eq_true rfl, Nat.le_of_ble_eq_true rfl⟩ hK hP hD hS hA [0, 1, 2, 3, 4, 5, 6] [] [0, 1, 2, 3, 4, 5] rfl rfl (by decide) (by decide) (fun i h => absurd h List.not_mem_nil) rfl (ci := 0) rfl (q0 := 0) rfl rfl rfl hl.1 (Nat.le_of_ble_eq_true rfl) dX0_fillCell_124 ⟨Nat.zero_le _, Nat.zero_le _⟩ (fun H locs hP hD hS => ?_)
        have hP : va_P D vwCl (xw q d cn lt ge gu op le ((x_ext op le (nI 0) (11 * i + j) ((11 * i + j) - 11) 1 3 (((x_c3 lt ge gu op le fd i j (fr, fw)).1), ((x_c3 lt ge gu op le fd i j (fr, fw)).2))).1) ((x_ext op le (nI 0) (11 * i + j) ((11 * i + j) - 11) 1 3 (((x_c3 lt ge gu op le fd i j (fr, fw)).1), ((x_c3 lt ge gu op le fd i j (fr, fw)).2))).2) bh fd cc cs) H := hP
        have hD : va_D A (xw q d cn lt ge gu op le ((x_ext op le (nI 0) (11 * i + j) ((11 * i + j) - 11) 1 3 (((x_c3 lt ge gu op le fd i j (fr, fw)).1), ((x_c3 lt ge gu op le fd i j (fr, fw)).2))).1) ((x_ext op le (nI 0) (11 * i + j) ((11 * i + j) - 11) 1 3 (((x_c3 lt ge gu op le fd i j (fr, fw)).1), ((x_c3 lt ge gu op le fd i j (fr, fw)).2))).2) bh fd cc cs) := hD
        have hE : (xw q d cn lt ge gu op le ((x_ext op le (nI 0) (11 * i + j) ((11 * i + j) - 11) 1 3 (((x_c3 lt ge gu op le fd i j (fr, fw)).1), ((x_c3 lt ge gu op le fd i j (fr, fw)).2))).1) ((x_ext op le (nI 0) (11 * i + j) ((11 * i + j) - 11) 1 3 (((x_c3 lt ge gu op le fd i j (fr, fw)).1), ((x_c3 lt ge gu op le fd i j (fr, fw)).2))).2) bh fd cc cs) = (xw q d cn lt ge gu op le ((x_c4 lt ge gu op le fd i j (fr, fw)).1) ((x_c4 lt ge gu op le fd i j (fr, fw)).2) bh fd cc cs) := by first | (rw [e4]; done) | (rw [e4]; rfl)
        rw [hE] at hP hD
        clear hE
        refine lv_iload_n hx hb dX0_fillCell_127 rfl (lv_at hl 4 rfl) ?_
        refine tw_if_le (tgt := 141) hx hb (by omega) dX0_fillCell_128 (by decide) (fun c_128 => False.elim (by omega)) (fun c_128 => ?_)
        refine lv_aload_n hx hb dX0_fillCell_131 rfl (lv_at hl 2 rfl) ?_
        refine lv_iload_n hx hb dX0_fillCell_132 rfl (lv_at hl 1 rfl) ?_
        refine lv_iload_n hx hb dX0_fillCell_133 rfl (lv_at hl 1 rfl) ?_
        refine lv_iconst (v := nI 1) hx hb dX0_fillCell_134 (by decide +kernel) ?_
        refine tw_isub hx hb (by omega) dX0_fillCell_135 ?_
        refine lv_iconst (v := nI 2) hx hb dX0_fillCell_136 (by decide +kernel) ?_
        refine lv_iconst (v := nI 0) hx hb dX0_fillCell_137 (by decide +kernel) ?_
        refine tw_callv (n := 4) (rest := []) (wr := []) (w' := (xw q d cn lt ge gu op le ((x_ext op le (nI 0) (11 * i + j) ((11 * i + j) - 1) 2 3 (((x_c4 lt ge gu op le fd i j (fr, fw)).1), ((x_c4 lt ge gu op le fd i j (fr, fw)).2))).1) ((x_ext op le (nI 0) (11 * i + j) ((11 * i + j) - 1) 2 3 (((x_c4 lt ge gu op le fd i j (fr, fw)).1), ((x_c4 lt ge gu op le fd i j (fr, fw)).2))).2) bh fd cc cs)) (kX0_extend l D q d cn lt ge gu op le ((x_c4 lt ge gu op le fd i j (fr, fw)).1) ((x_c4 lt ge gu op le fd i j (fr, fw)).2) bh fd cc cs (11 * i + j) ((11 * i + j) - 1) 2 (nI 0) (by omega) (by omega) (by omega)) S (lw_V q106 q108 qs5 q20 q109) (by decide +kernel) ⟨Nat.le_of_ble_eq_true rfl, Nat.le_of_ble_eq_true rfl⟩ hK hP hD hS hA [0, 1, 2, 3, 4, 5, 6] [] [0, 1, 2, 3, 4, 5] rfl rfl (by decide) (by decide) (fun i h => absurd h List.not_mem_nil) rfl (ci := 0) rfl (q0 := 0) rfl rfl rfl hl.1 (Nat.le_of_ble_eq_true rfl) dX0_fillCell_138 ⟨Nat.zero_le _, Nat.zero_le _⟩ (fun H locs hP hD hS => ?_)
        have hP : va_P D vwCl (xw q d cn lt ge gu op le ((x_ext op le (nI 0) (11 * i + j) ((11 * i + j) - 1) 2 3 (((x_c4 lt ge gu op le fd i j (fr, fw)).1), ((x_c4 lt ge gu op le fd i j (fr, fw)).2))).1) ((x_ext op le (nI 0) (11 * i + j) ((11 * i + j) - 1) 2 3 (((x_c4 lt ge gu op le fd i j (fr, fw)).1), ((x_c4 lt ge gu op le fd i j (fr, fw)).2))).2) bh fd cc cs) H := hP
        have hD : va_D A (xw q d cn lt ge gu op le ((x_ext op le (nI 0) (11 * i + j) ((11 * i + j) - 1) 2 3 (((x_c4 lt ge gu op le fd i j (fr, fw)).1), ((x_c4 lt ge gu op le fd i j (fr, fw)).2))).1) ((x_ext op le (nI 0) (11 * i + j) ((11 * i + j) - 1) 2 3 (((x_c4 lt ge gu op le fd i j (fr, fw)).1), ((x_c4 lt ge gu op le fd i j (fr, fw)).2))).2) bh fd cc cs) := hD
        have hE : (xw q d cn lt ge gu op le ((x_ext op le (nI 0) (11 * i + j) ((11 * i + j) - 1) 2 3 (((x_c4 lt ge gu op le fd i j (fr, fw)).1), ((x_c4 lt ge gu op le fd i j (fr, fw)).2))).1) ((x_ext op le (nI 0) (11 * i + j) ((11 * i + j) - 1) 2 3 (((x_c4 lt ge gu op le fd i j (fr, fw)).1), ((x_c4 lt ge gu op le fd i j (fr, fw)).2))).2) bh fd cc cs) = (xw q d cn lt ge gu op le ((x_cel lt ge gu op le fd i j (fr, fw)).1) ((x_cel lt ge gu op le fd i j (fr, fw)).2) bh fd cc cs) := by first | (rw [e5]; done) | (rw [e5]; rfl)
        rw [hE] at hP hD
        clear hE
        exact tw_vret hx hb hr hlocks hK hP hD hS dX0_fillCell_141
  have loop : ∀ (n k : Nat), k ≤ 3 → 4 ≤ k + n → ∀ (H : Heap) (locs : List Loc) (ls : Array Slot), va_P D vwCl (xw q d cn lt ge gu op le ((x_ini (11 * i + j) k (fr, fw)).1) ((x_ini (11 * i + j) k (fr, fw)).2) bh fd cc cs) H → va_D A (xw q d cn lt ge gu op le ((x_ini (11 * i + j) k (fr, fw)).1) ((x_ini (11 * i + j) k (fr, fw)).2) bh fd cc cs) → va_S A s.heap H locs → lv_has ls 5 [(4, .int (nI k)), (3, .int (nI (11 * i + j))), (0, .ref (q 0)), (1, .int (nI i)), (2, .int (nI j))] → W p l e (tw_rm 2 52) s m ([.ref (q 0), .int (nI i), .int (nI j)] : List Value).toArray below meth c H locs 0 0 (MQ below (tw_Qv D vwCl (xt d) (xw q d cn lt ge gu op le ((x_cel lt ge gu op le fd i j (fr, fw)).1) ((x_cel lt ge gu op le fd i j (fr, fw)).2) bh fd cc cs) A) ([.ref (q 0), .int (nI i), .int (nI j)] : List Value).toArray s 0 0 A) (F0 m 10 ls []) := by
    intro n
    induction n with
    | zero => intro k hk hn; exact absurd hn (by omega)
    | succ n ih =>
      intro k hk hn H locs ls hP hD hS hl
      refine lv_iload hx hb dX0_fillCell_10 (lv_at hl 0 rfl) ?_
      refine lv_iconst (v := nI 3) hx hb dX0_fillCell_12 (by decide +kernel) ?_
      refine tw_icmp_ge (tgt := 49) hx hb (by omega) (by omega) dX0_fillCell_13 (by decide) (fun c_13 => ?_) (fun c_13 => ?_)
      · 
        have hk3 : k = 3 := by omega
        subst hk3
        refine lv_aload_n hx hb dX0_fillCell_49 rfl (lv_at hl 2 rfl) ?_
        refine lv_iload_n hx hb dX0_fillCell_50 rfl (lv_at hl 3 rfl) ?_
        refine lv_iload_n hx hb dX0_fillCell_51 rfl (lv_at hl 4 rfl) ?_
        refine tw_calli (n := 2) (rest := []) (wr := []) (w' := (xw q d cn lt ge gu op le ((x_ini (11 * i + j) 3 (fr, fw)).1) ((x_ini (11 * i + j) 3 (fr, fw)).2) bh fd cc cs)) (kX0_mayBegin l D q d cn lt ge gu op le ((x_ini (11 * i + j) 3 (fr, fw)).1) ((x_ini (11 * i + j) 3 (fr, fw)).2) bh fd cc cs i j (by omega) (by omega) (by omega)) S (lw_V q94 q96 qs2 q20 q97) (by decide +kernel) ⟨Nat.le_of_ble_eq_true rfl, Nat.le_of_ble_eq_true rfl⟩ hK hP hD hS hA [0, 1, 2, 3, 4, 5, 6] [] [0, 1, 2, 3, 4, 5] rfl rfl (by decide) (by decide) (fun i h => absurd h List.not_mem_nil) rfl (ci := 0) rfl (q0 := 0) rfl rfl rfl hl.1 (Nat.le_of_ble_eq_true rfl) dX0_fillCell_52 ⟨Nat.zero_le _, Nat.zero_le _⟩ (fun H locs hP hD hS => ?_)
        have hP : va_P D vwCl (xw q d cn lt ge gu op le ((x_ini (11 * i + j) 3 (fr, fw)).1) ((x_ini (11 * i + j) 3 (fr, fw)).2) bh fd cc cs) H := hP
        have hD : va_D A (xw q d cn lt ge gu op le ((x_ini (11 * i + j) 3 (fr, fw)).1) ((x_ini (11 * i + j) 3 (fr, fw)).2) bh fd cc cs) := hD
        by_cases hm : x_may fd i j = true
        · 
          rw [if_pos hm]
          refine tw_if_eq (tgt := 66) hx hb (by omega) dX0_fillCell_55 (by decide) (fun c_55 => False.elim (by omega)) (fun c_55 => ?_)
          refine lv_aload_n hx hb dX0_fillCell_58 rfl (lv_at hl 2 rfl) ?_
          refine lv_iload_n hx hb dX0_fillCell_59 rfl (lv_at hl 1 rfl) ?_
          refine lv_iconst (v := nI 0) hx hb dX0_fillCell_60 (by decide +kernel) ?_
          refine lv_iconst (v := nI 0) hx hb dX0_fillCell_61 (by decide +kernel) ?_
          refine lv_iconst (v := nI 1) hx hb dX0_fillCell_62 (by decide +kernel) ?_
          refine tw_callv (n := 4) (rest := []) (wr := []) (w' := (xw q d cn lt ge gu op le ((x_off (((x_ini (11 * i + j) 3 (fr, fw)).1), ((x_ini (11 * i + j) 3 (fr, fw)).2)) (121 * 0 + (11 * i + j)) (nI 0) (nI 1)).1) ((x_off (((x_ini (11 * i + j) 3 (fr, fw)).1), ((x_ini (11 * i + j) 3 (fr, fw)).2)) (121 * 0 + (11 * i + j)) (nI 0) (nI 1)).2) bh fd cc cs)) (kX0_offer l D q d cn lt ge gu op le ((x_ini (11 * i + j) 3 (fr, fw)).1) ((x_ini (11 * i + j) 3 (fr, fw)).2) bh fd cc cs (11 * i + j) 0 (nI 0) (nI 1) (by omega) (by omega)) S (lw_V q98 q100 qs3 q20 q101) (by decide +kernel) ⟨Nat.le_of_ble_eq_true rfl, Nat.le_of_ble_eq_true rfl⟩ hK hP hD hS hA [0, 1, 2, 3, 4, 5, 6] [] [0, 1, 2, 3, 4, 5] rfl rfl (by decide) (by decide) (fun i h => absurd h List.not_mem_nil) rfl (ci := 0) rfl (q0 := 0) rfl rfl rfl hl.1 (Nat.le_of_ble_eq_true rfl) dX0_fillCell_63 ⟨Nat.zero_le _, Nat.zero_le _⟩ (fun H locs hP hD hS => ?_)
          have hP : va_P D vwCl (xw q d cn lt ge gu op le ((x_off (((x_ini (11 * i + j) 3 (fr, fw)).1), ((x_ini (11 * i + j) 3 (fr, fw)).2)) (121 * 0 + (11 * i + j)) (nI 0) (nI 1)).1) ((x_off (((x_ini (11 * i + j) 3 (fr, fw)).1), ((x_ini (11 * i + j) 3 (fr, fw)).2)) (121 * 0 + (11 * i + j)) (nI 0) (nI 1)).2) bh fd cc cs) H := hP
          have hD : va_D A (xw q d cn lt ge gu op le ((x_off (((x_ini (11 * i + j) 3 (fr, fw)).1), ((x_ini (11 * i + j) 3 (fr, fw)).2)) (121 * 0 + (11 * i + j)) (nI 0) (nI 1)).1) ((x_off (((x_ini (11 * i + j) 3 (fr, fw)).1), ((x_ini (11 * i + j) 3 (fr, fw)).2)) (121 * 0 + (11 * i + j)) (nI 0) (nI 1)).2) bh fd cc cs) := hD
          have hh : x_c2 fd i j (fr, fw) = x_off (x_ini (11 * i + j) 3 (fr, fw)) (121 * 0 + (11 * i + j)) (nI 0) (nI 1) := if_pos hm
          have hE : (xw q d cn lt ge gu op le ((x_off (((x_ini (11 * i + j) 3 (fr, fw)).1), ((x_ini (11 * i + j) 3 (fr, fw)).2)) (121 * 0 + (11 * i + j)) (nI 0) (nI 1)).1) ((x_off (((x_ini (11 * i + j) 3 (fr, fw)).1), ((x_ini (11 * i + j) 3 (fr, fw)).2)) (121 * 0 + (11 * i + j)) (nI 0) (nI 1)).2) bh fd cc cs) = (xw q d cn lt ge gu op le ((x_c2 fd i j (fr, fw)).1) ((x_c2 fd i j (fr, fw)).2) bh fd cc cs) := by first | (rw [hh]; done) | (rw [hh]; rfl)
          rw [hE] at hP hD
          clear hE
          exact j66 _ _ _ hP hD hS (lv_sub hl [1, 2, 3, 4] rfl)
        · 
          rw [if_neg hm]
          refine tw_if_eq (tgt := 66) hx hb (by omega) dX0_fillCell_55 (by decide) (fun c_55 => ?_) (fun c_55 => False.elim (by omega))
          have hh : x_c2 fd i j (fr, fw) = x_ini (11 * i + j) 3 (fr, fw) := if_neg hm
          have hE : (xw q d cn lt ge gu op le ((x_ini (11 * i + j) 3 (fr, fw)).1) ((x_ini (11 * i + j) 3 (fr, fw)).2) bh fd cc cs) = (xw q d cn lt ge gu op le ((x_c2 fd i j (fr, fw)).1) ((x_c2 fd i j (fr, fw)).2) bh fd cc cs) := by first | (rw [hh]; done) | (rw [hh]; rfl)
          rw [hE] at hP hD
          clear hE
          exact j66 _ _ _ hP hD hS (lv_sub hl [1, 2, 3, 4] rfl)
      · 
        refine lv_aload_n hx hb dX0_fillCell_16 rfl (lv_at hl 2 rfl) ?_
        refine va_get (D := D) (ci := 0) (v := .ref (q 3)) (C := RX0) (T := TX0) (N := 12) hx hb hts in_X0 hown hK hP 0 rfl rfl 6 (by decide) (hts _ q36) (fun _ h9 => h9) rfl dX0_fillCell_17 ?_
        refine lv_bipush (v := nI 121) hx hb dX0_fillCell_20 (by decide +kernel) ?_
        refine lv_iload hx hb dX0_fillCell_22 (lv_at hl 0 rfl) ?_
        refine tw_imul hx hb dX0_fillCell_24 ?_
        refine lv_iload_n hx hb dX0_fillCell_25 rfl (lv_at hl 1 rfl) ?_
        refine tw_iadd hx hb dX0_fillCell_26 ?_
        refine lv_ldc (v := -100000) hx hb hown (hts _ q93) dX0_fillCell_27 ?_
        refine tw_iast hx hb hK hP hD hS 3 2 rfl rfl (by omega) (by decide) dX0_fillCell_29 (fun H locs hP hD hS => ?_)
        have hP : va_P D vwCl (xw q d cn lt ge gu op le (upd ((x_ini (11 * i + j) k (fr, fw)).1) (121 * k + (11 * i + j)) (-100000)) ((x_ini (11 * i + j) k (fr, fw)).2) bh fd cc cs) H := hP
        have hD : va_D A (xw q d cn lt ge gu op le (upd ((x_ini (11 * i + j) k (fr, fw)).1) (121 * k + (11 * i + j)) (-100000)) ((x_ini (11 * i + j) k (fr, fw)).2) bh fd cc cs) := hD
        refine lv_aload_n hx hb dX0_fillCell_30 rfl (lv_at hl 2 rfl) ?_
        refine va_get (D := D) (ci := 0) (v := .ref (q 4)) (C := RX0) (T := TX0) (N := 12) hx hb hts in_X0 hown hK hP 0 rfl rfl 7 (by decide) (hts _ q37) (fun _ h9 => h9) rfl dX0_fillCell_31 ?_
        refine lv_bipush (v := nI 121) hx hb dX0_fillCell_34 (by decide +kernel) ?_
        refine lv_iload hx hb dX0_fillCell_36 (lv_at hl 0 rfl) ?_
        refine tw_imul hx hb dX0_fillCell_38 ?_
        refine lv_iload_n hx hb dX0_fillCell_39 rfl (lv_at hl 1 rfl) ?_
        refine tw_iadd hx hb dX0_fillCell_40 ?_
        refine lv_iconst (v := nI 0) hx hb dX0_fillCell_41 (by decide +kernel) ?_
        refine tw_iast hx hb hK hP hD hS 4 3 rfl rfl (by omega) (by decide) dX0_fillCell_42 (fun H locs hP hD hS => ?_)
        have hP : va_P D vwCl (xw q d cn lt ge gu op le (upd ((x_ini (11 * i + j) k (fr, fw)).1) (121 * k + (11 * i + j)) (-100000)) (upd ((x_ini (11 * i + j) k (fr, fw)).2) (121 * k + (11 * i + j)) (nI 0)) bh fd cc cs) H := hP
        have hD : va_D A (xw q d cn lt ge gu op le (upd ((x_ini (11 * i + j) k (fr, fw)).1) (121 * k + (11 * i + j)) (-100000)) (upd ((x_ini (11 * i + j) k (fr, fw)).2) (121 * k + (11 * i + j)) (nI 0)) bh fd cc cs) := hD
        refine tw_iinc (lv' := [(4, .int (nI (k + 1))), (3, .int (nI (11 * i + j))), (0, .ref (q 0)), (1, .int (nI i)), (2, .int (nI j))]) hx hb dX0_fillCell_43 hl (k := 0) rfl (by decide) rfl (fun ls hl => ?_)
        refine lv_goto (tgt := 10) hx hb dX0_fillCell_46 (by decide) ?_
        exact ih (k + 1) (by omega) (by omega) _ _ _ hP hD hS (lv_sub hl [0, 1, 2, 3, 4] rfl)
  refine lv_bipush (v := nI 11) hx hb dX0_fillCell_0 (by decide +kernel) ?_
  refine lv_iload_n hx hb dX0_fillCell_2 rfl (lv_at hl 1 rfl) ?_
  refine tw_imul hx hb dX0_fillCell_3 ?_
  refine lv_iload_n hx hb dX0_fillCell_4 rfl (lv_at hl 2 rfl) ?_
  refine tw_iadd hx hb dX0_fillCell_5 ?_
  refine lv_istore_n (lv' := [(3, .int (nI (11 * i + j))), (0, .ref (q 0)), (1, .int (nI i)), (2, .int (nI j))]) hx hb dX0_fillCell_6 rfl hl (by decide) rfl (fun ls hl => ?_)
  refine lv_iconst (v := nI 0) hx hb dX0_fillCell_7 (by decide +kernel) ?_
  refine lv_istore (lv' := [(4, .int (nI 0)), (3, .int (nI (11 * i + j))), (0, .ref (q 0)), (1, .int (nI i)), (2, .int (nI j))]) hx hb dX0_fillCell_8 hl (by decide) rfl (fun ls hl => ?_)
  exact loop 4 0 (by omega) (by omega) _ _ _ hP hD hS (lv_sub hl [0, 1, 2, 3, 4] rfl)
set_option maxHeartbeats 4000000 in
set_option maxRecDepth 100000 in
theorem kX0_fillFront (how : Nat) (h1 : how < 4) (h2 : cn 0 ≤ 10) (h3 : cn 1 ≤ 10) : Cv l yX0_fillFront cX0_fillFront 4 3 76 D vwCl (xt d) [.ref (q 0), .int (nI how)] (xw q d cn lt ge gu op le fr fw bh fd cc cs) (xw q d cn lt ge gu op le ((x_frt lt ge gu op le how (cn 1) (cn 0 + 1) (fr, fw)).1) ((x_frt lt ge gu op le how (cn 1) (cn 0 + 1) (fr, fw)).2) bh how cc cs) := by
  refine Cv.of (by decide +kernel) (Nat.le_of_ble_eq_true rfl) ?_
  intro p e s m below meth c A ls hx hb hr hlocks hml hown hts hK hP hD hS hA hl
  have hown : s.vm.findClass RX0 = some m.cls := hown
  have S : CallFix p m c cX0_fillFront 4 s ([.ref (q 0), .int (nI how)] : List Value).toArray lw_all RX0 := ⟨hx, hb, hml, hown, hts⟩
  have hl : lv_has ls 4 [(0, .ref (q 0)), (1, .int (nI how))] := hl
  have loop : ∀ (n i : Nat), i ≤ cn 0 + 1 → cn 0 + 2 ≤ i + n → ∀ (H : Heap) (locs : List Loc) (ls : Array Slot), va_P D vwCl (xw q d cn lt ge gu op le ((x_frt lt ge gu op le how (cn 1) i (fr, fw)).1) ((x_frt lt ge gu op le how (cn 1) i (fr, fw)).2) bh how cc cs) H → va_D A (xw q d cn lt ge gu op le ((x_frt lt ge gu op le how (cn 1) i (fr, fw)).1) ((x_frt lt ge gu op le how (cn 1) i (fr, fw)).2) bh how cc cs) → va_S A s.heap H locs → lv_has ls 4 [(2, .int (nI i)), (0, .ref (q 0)), (1, .int (nI how))] → W p l e (tw_rm 3 76) s m ([.ref (q 0), .int (nI how)] : List Value).toArray below meth c H locs 0 0 (MQ below (tw_Qv D vwCl (xt d) (xw q d cn lt ge gu op le ((x_frt lt ge gu op le how (cn 1) (cn 0 + 1) (fr, fw)).1) ((x_frt lt ge gu op le how (cn 1) (cn 0 + 1) (fr, fw)).2) bh how cc cs) A) ([.ref (q 0), .int (nI how)] : List Value).toArray s 0 0 A) (F0 m 7 ls []) := by
    intro n
    induction n with
    | zero => intro k hk hn; exact absurd hn (by omega)
    | succ n ih =>
      intro i hi hn H locs ls hP hD hS hl
      refine lv_iload_n hx hb dX0_fillFront_7 rfl (lv_at hl 0 rfl) ?_
      refine lv_aload_n hx hb dX0_fillFront_8 rfl (lv_at hl 1 rfl) ?_
      refine va_get (D := D) (ci := 0) (v := .ref (q 1)) (C := RX0) (T := TX0) (N := 12) hx hb hts in_X0 hown hK hP 0 rfl rfl 0 (by decide) (hts _ q30) (fun _ h9 => h9) rfl dX0_fillFront_9 ?_
      refine lv_iconst (v := nI 0) hx hb dX0_fillFront_12 (by decide +kernel) ?_
      refine tw_bald hx hb hK hP 1 0 rfl rfl (by omega) (by decide) dX0_fillFront_13 ?_
      refine tw_icmp_gt (tgt := 47) hx hb (by omega) (by omega) dX0_fillFront_14 (by decide) (fun c_14 => ?_) (fun c_14 => ?_)
      · 
        have hi3 : i = cn 0 + 1 := by omega
        subst hi3
        exact tw_vret hx hb hr hlocks hK hP hD hS dX0_fillFront_47
      · 
        have inner : ∀ (n j : Nat), j ≤ cn 1 + 1 → cn 1 + 2 ≤ j + n → ∀ (H : Heap) (locs : List Loc) (ls : Array Slot), va_P D vwCl (xw q d cn lt ge gu op le ((x_row lt ge gu op le how i j (x_frt lt ge gu op le how (cn 1) i (fr, fw))).1) ((x_row lt ge gu op le how i j (x_frt lt ge gu op le how (cn 1) i (fr, fw))).2) bh how cc cs) H → va_D A (xw q d cn lt ge gu op le ((x_row lt ge gu op le how i j (x_frt lt ge gu op le how (cn 1) i (fr, fw))).1) ((x_row lt ge gu op le how i j (x_frt lt ge gu op le how (cn 1) i (fr, fw))).2) bh how cc cs) → va_S A s.heap H locs → lv_has ls 4 [(3, .int (nI j)), (2, .int (nI i)), (0, .ref (q 0)), (1, .int (nI how))] → W p l e (tw_rm 3 76) s m ([.ref (q 0), .int (nI how)] : List Value).toArray below meth c H locs 0 0 (MQ below (tw_Qv D vwCl (xt d) (xw q d cn lt ge gu op le ((x_frt lt ge gu op le how (cn 1) (cn 0 + 1) (fr, fw)).1) ((x_frt lt ge gu op le how (cn 1) (cn 0 + 1) (fr, fw)).2) bh how cc cs) A) ([.ref (q 0), .int (nI how)] : List Value).toArray s 0 0 A) (F0 m 19 ls []) := by
          intro n2
          induction n2 with
          | zero => intro k hk hn; exact absurd hn (by omega)
          | succ n2 ih2 =>
            intro j hj hn2 H locs ls hP hD hS hl
            refine lv_iload_n hx hb dX0_fillFront_19 rfl (lv_at hl 0 rfl) ?_
            refine lv_aload_n hx hb dX0_fillFront_20 rfl (lv_at hl 2 rfl) ?_
            refine va_get (D := D) (ci := 0) (v := .ref (q 1)) (C := RX0) (T := TX0) (N := 12) hx hb hts in_X0 hown hK hP 0 rfl rfl 0 (by decide) (hts _ q30) (fun _ h9 => h9) rfl dX0_fillFront_21 ?_
            refine lv_iconst (v := nI 1) hx hb dX0_fillFront_24 (by decide +kernel) ?_
            refine tw_bald hx hb hK hP 1 0 rfl rfl (by omega) (by decide) dX0_fillFront_25 ?_
            refine tw_icmp_gt (tgt := 41) hx hb (by omega) (by omega) dX0_fillFront_26 (by decide) (fun c_26 => ?_) (fun c_26 => ?_)
            · 
              have hj3 : j = cn 1 + 1 := by omega
              subst hj3
              refine tw_iinc (lv' := [(2, .int (nI (i + 1))), (3, .int (nI (cn 1 + 1))), (0, .ref (q 0)), (1, .int (nI how))]) hx hb dX0_fillFront_41 hl (k := 1) rfl (by decide) rfl (fun ls hl => ?_)
              refine lv_goto (tgt := 7) hx hb dX0_fillFront_44 (by decide) ?_
              exact ih (i + 1) (by omega) (by omega) _ _ _ hP hD hS (lv_sub hl [0, 2, 3] rfl)
            · 
              refine lv_aload_n hx hb dX0_fillFront_29 rfl (lv_at hl 2 rfl) ?_
              refine lv_iload_n hx hb dX0_fillFront_30 rfl (lv_at hl 1 rfl) ?_
              refine lv_iload_n hx hb dX0_fillFront_31 rfl (lv_at hl 0 rfl) ?_
              refine tw_callv (n := 2) (rest := []) (wr := []) (w' := (xw q d cn lt ge gu op le ((x_cel lt ge gu op le how i j (((x_row lt ge gu op le how i j (x_frt lt ge gu op le how (cn 1) i (fr, fw))).1), ((x_row lt ge gu op le how i j (x_frt lt ge gu op le how (cn 1) i (fr, fw))).2))).1) ((x_cel lt ge gu op le how i j (((x_row lt ge gu op le how i j (x_frt lt ge gu op le how (cn 1) i (fr, fw))).1), ((x_row lt ge gu op le how i j (x_frt lt ge gu op le how (cn 1) i (fr, fw))).2))).2) bh how cc cs)) (kX0_fillCell l D q d cn lt ge gu op le ((x_row lt ge gu op le how i j (x_frt lt ge gu op le how (cn 1) i (fr, fw))).1) ((x_row lt ge gu op le how i j (x_frt lt ge gu op le how (cn 1) i (fr, fw))).2) bh how cc cs i j (by omega) (by omega) (by omega)) S (lw_V q89 q91 qs1 q20 q92) (by decide +kernel) ⟨Nat.le_of_ble_eq_true rfl, Nat.le_of_ble_eq_true rfl⟩ hK hP hD hS hA [0, 1, 2, 3, 4, 5, 6] [] [0, 1, 2, 3, 4, 5] rfl rfl (by decide) (by decide) (fun i h => absurd h List.not_mem_nil) rfl (ci := 0) rfl (q0 := 0) rfl rfl rfl hl.1 (Nat.le_of_ble_eq_true rfl) dX0_fillFront_32 ⟨Nat.zero_le _, Nat.zero_le _⟩ (fun H locs hP hD hS => ?_)
              have hP : va_P D vwCl (xw q d cn lt ge gu op le ((x_cel lt ge gu op le how i j (((x_row lt ge gu op le how i j (x_frt lt ge gu op le how (cn 1) i (fr, fw))).1), ((x_row lt ge gu op le how i j (x_frt lt ge gu op le how (cn 1) i (fr, fw))).2))).1) ((x_cel lt ge gu op le how i j (((x_row lt ge gu op le how i j (x_frt lt ge gu op le how (cn 1) i (fr, fw))).1), ((x_row lt ge gu op le how i j (x_frt lt ge gu op le how (cn 1) i (fr, fw))).2))).2) bh how cc cs) H := hP
              have hD : va_D A (xw q d cn lt ge gu op le ((x_cel lt ge gu op le how i j (((x_row lt ge gu op le how i j (x_frt lt ge gu op le how (cn 1) i (fr, fw))).1), ((x_row lt ge gu op le how i j (x_frt lt ge gu op le how (cn 1) i (fr, fw))).2))).1) ((x_cel lt ge gu op le how i j (((x_row lt ge gu op le how i j (x_frt lt ge gu op le how (cn 1) i (fr, fw))).1), ((x_row lt ge gu op le how i j (x_frt lt ge gu op le how (cn 1) i (fr, fw))).2))).2) bh how cc cs) := hD
              refine tw_iinc (lv' := [(3, .int (nI (j + 1))), (2, .int (nI i)), (0, .ref (q 0)), (1, .int (nI how))]) hx hb dX0_fillFront_35 hl (k := 0) rfl (by decide) rfl (fun ls hl => ?_)
              refine lv_goto (tgt := 19) hx hb dX0_fillFront_38 (by decide) ?_
              exact ih2 (j + 1) (by omega) (by omega) _ _ _ hP hD hS (lv_sub hl [0, 1, 2, 3] rfl)
        refine lv_iconst (v := nI 0) hx hb dX0_fillFront_17 (by decide +kernel) ?_
        refine lv_istore_n (lv' := [(3, .int (nI 0)), (2, .int (nI i)), (0, .ref (q 0)), (1, .int (nI how))]) hx hb dX0_fillFront_18 rfl hl (by decide) rfl (fun ls hl => ?_)
        exact inner (cn 1 + 2) 0 (by omega) (by omega) _ _ _ hP hD hS (lv_sub hl [0, 1, 2, 3] rfl)
  refine lv_aload_n hx hb dX0_fillFront_0 rfl (lv_at hl 0 rfl) ?_
  refine lv_iload_n hx hb dX0_fillFront_1 rfl (lv_at hl 1 rfl) ?_
  refine va_put (D := D) (ci := 0) (v := .int (nI how)) (ty := .int) (C := RX0) (T := TX0) (N := 12) hx hb hts in_X0 tyX0 tyX0_ok nmX0 hown hK hP hD hS 0 rfl rfl 9 (by decide) (hts _ q39) (fun _ h9 => h9) rfl (by decide +kernel) rfl rfl (Nat.le_of_ble_eq_true rfl) dX0_fillFront_2 (fun H locs hP hD hS => ?_)
  have hP : va_P D vwCl (xw q d cn lt ge gu op le fr fw bh how cc cs) H := hP
  have hD : va_D A (xw q d cn lt ge gu op le fr fw bh how cc cs) := hD
  refine lv_iconst (v := nI 0) hx hb dX0_fillFront_5 (by decide +kernel) ?_
  refine lv_istore_n (lv' := [(2, .int (nI 0)), (0, .ref (q 0)), (1, .int (nI how))]) hx hb dX0_fillFront_6 rfl hl (by decide) rfl (fun ls hl => ?_)
  exact loop (cn 0 + 2) 0 (by omega) (by omega) _ _ _ hP hD hS (lv_sub hl [0, 1, 2] rfl)
set_option maxHeartbeats 4000000 in
set_option maxRecDepth 100000 in
theorem kX0_best  (h1 : cn 0 ≤ 10) (h2 : cn 1 ≤ 10) : Ci l yX0_best cX0_best 1 .int 4 99 D vwCl (xt d) [.ref (q 0)] (xw q d cn lt ge gu op le fr fw bh fd cc cs) (x_bat (x_frt lt ge gu op le 0 (cn 1) (cn 0 + 1) (fr, fw)).1 (cn 0) (cn 1)) (xw q d cn lt ge gu op le ((x_frt lt ge gu op le 0 (cn 1) (cn 0 + 1) (fr, fw)).1) ((x_frt lt ge gu op le 0 (cn 1) (cn 0 + 1) (fr, fw)).2) bh 0 cc cs) := by
  refine Ci.of (by decide +kernel) (Nat.le_of_ble_eq_true rfl) ?_
  intro p e s m below meth c A ls hx hb hr hlocks hml hown hts hK hP hD hS hA hl
  have hown : s.vm.findClass RX0 = some m.cls := hown
  have S : CallFix p m c cX0_best 1 s ([.ref (q 0)] : List Value).toArray lw_all RX0 := ⟨hx, hb, hml, hown, hts⟩
  have hl : lv_has ls 1 [(0, .ref (q 0))] := hl
  refine lv_aload_n hx hb dX0_best_0 rfl (lv_at hl 0 rfl) ?_
  refine lv_iconst (v := nI 0) hx hb dX0_best_1 (by decide +kernel) ?_
  refine tw_callv (n := 1) (rest := []) (wr := []) (w' := (xw q d cn lt ge gu op le ((x_frt lt ge gu op le 0 (cn 1) (cn 0 + 1) (fr, fw)).1) ((x_frt lt ge gu op le 0 (cn 1) (cn 0 + 1) (fr, fw)).2) bh 0 cc cs)) (kX0_fillFront l D q d cn lt ge gu op le fr fw bh fd cc cs 0 (by omega) (by omega) (by omega)) S (lw_V q85 q87 qs0 q20 q88) (by decide +kernel) ⟨Nat.le_of_ble_eq_true rfl, Nat.le_of_ble_eq_true rfl⟩ hK hP hD hS hA [0, 1, 2, 3, 4, 5, 6] [] [0, 1, 2, 3, 4, 5] rfl rfl (by decide) (by decide) (fun i h => absurd h List.not_mem_nil) rfl (ci := 0) rfl (q0 := 0) rfl rfl rfl hl.1 (Nat.le_of_ble_eq_true rfl) dX0_best_2 ⟨Nat.zero_le _, Nat.zero_le _⟩ (fun H locs hP hD hS => ?_)
  have hP : va_P D vwCl (xw q d cn lt ge gu op le ((x_frt lt ge gu op le 0 (cn 1) (cn 0 + 1) (fr, fw)).1) ((x_frt lt ge gu op le 0 (cn 1) (cn 0 + 1) (fr, fw)).2) bh 0 cc cs) H := hP
  have hD : va_D A (xw q d cn lt ge gu op le ((x_frt lt ge gu op le 0 (cn 1) (cn 0 + 1) (fr, fw)).1) ((x_frt lt ge gu op le 0 (cn 1) (cn 0 + 1) (fr, fw)).2) bh 0 cc cs) := hD
  refine lv_aload_n hx hb dX0_best_5 rfl (lv_at hl 0 rfl) ?_
  refine lv_aload_n hx hb dX0_best_6 rfl (lv_at hl 0 rfl) ?_
  refine va_get (D := D) (ci := 0) (v := .ref (q 1)) (C := RX0) (T := TX0) (N := 12) hx hb hts in_X0 hown hK hP 0 rfl rfl 0 (by decide) (hts _ q30) (fun _ h9 => h9) rfl dX0_best_7 ?_
  refine lv_iconst (v := nI 0) hx hb dX0_best_10 (by decide +kernel) ?_
  refine tw_bald hx hb hK hP 1 0 rfl rfl (by omega) (by decide) dX0_best_11 ?_
  refine lv_aload_n hx hb dX0_best_12 rfl (lv_at hl 0 rfl) ?_
  refine va_get (D := D) (ci := 0) (v := .ref (q 1)) (C := RX0) (T := TX0) (N := 12) hx hb hts in_X0 hown hK hP 0 rfl rfl 0 (by decide) (hts _ q30) (fun _ h9 => h9) rfl dX0_best_13 ?_
  refine lv_iconst (v := nI 1) hx hb dX0_best_16 (by decide +kernel) ?_
  refine tw_bald hx hb hK hP 1 0 rfl rfl (by omega) (by decide) dX0_best_17 ?_
  refine tw_calli (n := 2) (rest := []) (wr := []) (w' := (xw q d cn lt ge gu op le ((x_frt lt ge gu op le 0 (cn 1) (cn 0 + 1) (fr, fw)).1) ((x_frt lt ge gu op le 0 (cn 1) (cn 0 + 1) (fr, fw)).2) bh 0 cc cs)) (kX0_bestAt l D q d cn lt ge gu op le ((x_frt lt ge gu op le 0 (cn 1) (cn 0 + 1) (fr, fw)).1) ((x_frt lt ge gu op le 0 (cn 1) (cn 0 + 1) (fr, fw)).2) bh 0 cc cs (cn 0) (cn 1) (by omega) (by omega)) S (lw_V q114 q116 qs7 q20 q117) (by decide +kernel) ⟨Nat.le_of_ble_eq_true rfl, Nat.le_of_ble_eq_true rfl⟩ hK hP hD hS hA [0, 1, 2, 3, 4, 5, 6] [] [0, 1, 2, 3, 4, 5] rfl rfl (by decide) (by decide) (fun i h => absurd h List.not_mem_nil) rfl (ci := 0) rfl (q0 := 0) rfl rfl rfl hl.1 (Nat.le_of_ble_eq_true rfl) dX0_best_18 ⟨Nat.zero_le _, Nat.zero_le _⟩ (fun H locs hP hD hS => ?_)
  have hP : va_P D vwCl (xw q d cn lt ge gu op le ((x_frt lt ge gu op le 0 (cn 1) (cn 0 + 1) (fr, fw)).1) ((x_frt lt ge gu op le 0 (cn 1) (cn 0 + 1) (fr, fw)).2) bh 0 cc cs) H := hP
  have hD : va_D A (xw q d cn lt ge gu op le ((x_frt lt ge gu op le 0 (cn 1) (cn 0 + 1) (fr, fw)).1) ((x_frt lt ge gu op le 0 (cn 1) (cn 0 + 1) (fr, fw)).2) bh 0 cc cs) := hD
  exact tw_iret hx hb hr hlocks hK hP hD hS (rfl) dX0_best_21
set_option maxHeartbeats 4000000 in
set_option maxRecDepth 100000 in
theorem kX0_ways  (h1 : cn 0 ≤ 10) (h2 : cn 1 ≤ 10) : Ci l yX0_ways cX0_ways 5 .int 5 119 D vwCl (xt d) [.ref (q 0)] (xw q d cn lt ge gu op le fr fw bh fd cc cs) (x_wsm (x_frt lt ge gu op le 0 (cn 1) (cn 0 + 1) (fr, fw)).1 (x_frt lt ge gu op le 0 (cn 1) (cn 0 + 1) (fr, fw)).2 (11 * cn 0 + cn 1) (x_bat (x_frt lt ge gu op le 0 (cn 1) (cn 0 + 1) (fr, fw)).1 (cn 0) (cn 1)) 3) (xw q d cn lt ge gu op le ((x_frt lt ge gu op le 0 (cn 1) (cn 0 + 1) (fr, fw)).1) ((x_frt lt ge gu op le 0 (cn 1) (cn 0 + 1) (fr, fw)).2) bh 0 cc cs) := by
  refine Ci.of (by decide +kernel) (Nat.le_of_ble_eq_true rfl) ?_
  intro p e s m below meth c A ls hx hb hr hlocks hml hown hts hK hP hD hS hA hl
  have hown : s.vm.findClass RX0 = some m.cls := hown
  have S : CallFix p m c cX0_ways 5 s ([.ref (q 0)] : List Value).toArray lw_all RX0 := ⟨hx, hb, hml, hown, hts⟩
  have hl : lv_has ls 5 [(0, .ref (q 0))] := hl
  have loop : ∀ (n k : Nat), k ≤ 3 → 4 ≤ k + n → ∀ (H : Heap) (locs : List Loc) (ls : Array Slot), va_P D vwCl (xw q d cn lt ge gu op le ((x_frt lt ge gu op le 0 (cn 1) (cn 0 + 1) (fr, fw)).1) ((x_frt lt ge gu op le 0 (cn 1) (cn 0 + 1) (fr, fw)).2) bh 0 cc cs) H → va_D A (xw q d cn lt ge gu op le ((x_frt lt ge gu op le 0 (cn 1) (cn 0 + 1) (fr, fw)).1) ((x_frt lt ge gu op le 0 (cn 1) (cn 0 + 1) (fr, fw)).2) bh 0 cc cs) → va_S A s.heap H locs → lv_has ls 5 [(4, .int (nI k)), (2, .int (x_wsm (x_frt lt ge gu op le 0 (cn 1) (cn 0 + 1) (fr, fw)).1 (x_frt lt ge gu op le 0 (cn 1) (cn 0 + 1) (fr, fw)).2 (11 * cn 0 + cn 1) (x_bat (x_frt lt ge gu op le 0 (cn 1) (cn 0 + 1) (fr, fw)).1 (cn 0) (cn 1)) k)), (3, .int (nI (11 * cn 0 + cn 1))), (1, .int (x_bat (x_frt lt ge gu op le 0 (cn 1) (cn 0 + 1) (fr, fw)).1 (cn 0) (cn 1))), (0, .ref (q 0))] → W p l e (tw_rm 5 119) s m ([.ref (q 0)] : List Value).toArray below meth c H locs 0 0 (MQ below (tw_Qi D vwCl (xt d) (x_wsm (x_frt lt ge gu op le 0 (cn 1) (cn 0 + 1) (fr, fw)).1 (x_frt lt ge gu op le 0 (cn 1) (cn 0 + 1) (fr, fw)).2 (11 * cn 0 + cn 1) (x_bat (x_frt lt ge gu op le 0 (cn 1) (cn 0 + 1) (fr, fw)).1 (cn 0) (cn 1)) 3) (xw q d cn lt ge gu op le ((x_frt lt ge gu op le 0 (cn 1) (cn 0 + 1) (fr, fw)).1) ((x_frt lt ge gu op le 0 (cn 1) (cn 0 + 1) (fr, fw)).2) bh 0 cc cs) A) ([.ref (q 0)] : List Value).toArray s 0 0 A) (F0 m 27 ls []) := by
    intro n
    induction n with
    | zero => intro k hk hn; exact absurd hn (by omega)
    | succ n ih =>
      intro k hk hn H locs ls hP hD hS hl
      refine lv_iload hx hb dX0_ways_27 (lv_at hl 0 rfl) ?_
      refine lv_iconst (v := nI 3) hx hb dX0_ways_29 (by decide +kernel) ?_
      refine tw_icmp_ge (tgt := 70) hx hb (by omega) (by omega) dX0_ways_30 (by decide) (fun c_30 => ?_) (fun c_30 => ?_)
      · 
        have hk3 : k = 3 := by omega
        subst hk3
        refine lv_iload_n hx hb dX0_ways_70 rfl (lv_at hl 1 rfl) ?_
        exact tw_iret hx hb hr hlocks hK hP hD hS (rfl) dX0_ways_71
      · 
        refine lv_aload_n hx hb dX0_ways_33 rfl (lv_at hl 4 rfl) ?_
        refine va_get (D := D) (ci := 0) (v := .ref (q 3)) (C := RX0) (T := TX0) (N := 12) hx hb hts in_X0 hown hK hP 0 rfl rfl 6 (by decide) (hts _ q36) (fun _ h9 => h9) rfl dX0_ways_34 ?_
        refine lv_bipush (v := nI 121) hx hb dX0_ways_37 (by decide +kernel) ?_
        refine lv_iload hx hb dX0_ways_39 (lv_at hl 0 rfl) ?_
        refine tw_imul hx hb dX0_ways_41 ?_
        refine lv_iload_n hx hb dX0_ways_42 rfl (lv_at hl 2 rfl) ?_
        refine tw_iadd hx hb dX0_ways_43 ?_
        refine tw_iald hx hb hK hP 3 2 rfl rfl (by omega) (by decide) dX0_ways_44 ?_
        refine lv_iload_n hx hb dX0_ways_45 rfl (lv_at hl 3 rfl) ?_
        refine lv_icmp_ne (tgt := 64) hx hb dX0_ways_46 (by decide) (fun c_46 => ?_) (fun c_46 => ?_)
        · 
          refine tw_iinc (lv' := [(4, .int (nI (k + 1))), (2, .int (x_wsm (x_frt lt ge gu op le 0 (cn 1) (cn 0 + 1) (fr, fw)).1 (x_frt lt ge gu op le 0 (cn 1) (cn 0 + 1) (fr, fw)).2 (11 * cn 0 + cn 1) (x_bat (x_frt lt ge gu op le 0 (cn 1) (cn 0 + 1) (fr, fw)).1 (cn 0) (cn 1)) k)), (3, .int (nI (11 * cn 0 + cn 1))), (1, .int (x_bat (x_frt lt ge gu op le 0 (cn 1) (cn 0 + 1) (fr, fw)).1 (cn 0) (cn 1))), (0, .ref (q 0))]) hx hb dX0_ways_64 hl (k := 0) rfl (by decide) rfl (fun ls hl => ?_)
          refine lv_goto (tgt := 27) hx hb dX0_ways_67 (by decide) ?_
          have hh : x_wsm (x_frt lt ge gu op le 0 (cn 1) (cn 0 + 1) (fr, fw)).1 (x_frt lt ge gu op le 0 (cn 1) (cn 0 + 1) (fr, fw)).2 (11 * cn 0 + cn 1) (x_bat (x_frt lt ge gu op le 0 (cn 1) (cn 0 + 1) (fr, fw)).1 (cn 0) (cn 1)) (k + 1) = x_wsm (x_frt lt ge gu op le 0 (cn 1) (cn 0 + 1) (fr, fw)).1 (x_frt lt ge gu op le 0 (cn 1) (cn 0 + 1) (fr, fw)).2 (11 * cn 0 + cn 1) (x_bat (x_frt lt ge gu op le 0 (cn 1) (cn 0 + 1) (fr, fw)).1 (cn 0) (cn 1)) k := if_neg c_46
          exact ih (k + 1) (by omega) (by omega) _ _ _ hP hD hS (by rw [hh]; exact (lv_sub hl [0, 1, 2, 3, 4] rfl))
        · 
          refine lv_iload_n hx hb dX0_ways_49 rfl (lv_at hl 1 rfl) ?_
          refine lv_aload_n hx hb dX0_ways_50 rfl (lv_at hl 4 rfl) ?_
          refine va_get (D := D) (ci := 0) (v := .ref (q 4)) (C := RX0) (T := TX0) (N := 12) hx hb hts in_X0 hown hK hP 0 rfl rfl 7 (by decide) (hts _ q37) (fun _ h9 => h9) rfl dX0_ways_51 ?_
          refine lv_bipush (v := nI 121) hx hb dX0_ways_54 (by decide +kernel) ?_
          refine lv_iload hx hb dX0_ways_56 (lv_at hl 0 rfl) ?_
          refine tw_imul hx hb dX0_ways_58 ?_
          refine lv_iload_n hx hb dX0_ways_59 rfl (lv_at hl 2 rfl) ?_
          refine tw_iadd hx hb dX0_ways_60 ?_
          refine tw_iald hx hb hK hP 4 3 rfl rfl (by omega) (by decide) dX0_ways_61 ?_
          refine lv_iadd hx hb dX0_ways_62 ?_
          refine lv_istore_n (lv' := [(2, .int ((x_wsm (x_frt lt ge gu op le 0 (cn 1) (cn 0 + 1) (fr, fw)).1 (x_frt lt ge gu op le 0 (cn 1) (cn 0 + 1) (fr, fw)).2 (11 * cn 0 + cn 1) (x_bat (x_frt lt ge gu op le 0 (cn 1) (cn 0 + 1) (fr, fw)).1 (cn 0) (cn 1)) k) + ((x_frt lt ge gu op le 0 (cn 1) (cn 0 + 1) (fr, fw)).2) (121 * k + (11 * cn 0 + cn 1)))), (4, .int (nI k)), (3, .int (nI (11 * cn 0 + cn 1))), (1, .int (x_bat (x_frt lt ge gu op le 0 (cn 1) (cn 0 + 1) (fr, fw)).1 (cn 0) (cn 1))), (0, .ref (q 0))]) hx hb dX0_ways_63 rfl hl (by decide) rfl (fun ls hl => ?_)
          refine tw_iinc (lv' := [(4, .int (nI (k + 1))), (2, .int ((x_wsm (x_frt lt ge gu op le 0 (cn 1) (cn 0 + 1) (fr, fw)).1 (x_frt lt ge gu op le 0 (cn 1) (cn 0 + 1) (fr, fw)).2 (11 * cn 0 + cn 1) (x_bat (x_frt lt ge gu op le 0 (cn 1) (cn 0 + 1) (fr, fw)).1 (cn 0) (cn 1)) k) + ((x_frt lt ge gu op le 0 (cn 1) (cn 0 + 1) (fr, fw)).2) (121 * k + (11 * cn 0 + cn 1)))), (3, .int (nI (11 * cn 0 + cn 1))), (1, .int (x_bat (x_frt lt ge gu op le 0 (cn 1) (cn 0 + 1) (fr, fw)).1 (cn 0) (cn 1))), (0, .ref (q 0))]) hx hb dX0_ways_64 hl (k := 1) rfl (by decide) rfl (fun ls hl => ?_)
          refine lv_goto (tgt := 27) hx hb dX0_ways_67 (by decide) ?_
          have hh : x_wsm (x_frt lt ge gu op le 0 (cn 1) (cn 0 + 1) (fr, fw)).1 (x_frt lt ge gu op le 0 (cn 1) (cn 0 + 1) (fr, fw)).2 (11 * cn 0 + cn 1) (x_bat (x_frt lt ge gu op le 0 (cn 1) (cn 0 + 1) (fr, fw)).1 (cn 0) (cn 1)) (k + 1) = x_wsm (x_frt lt ge gu op le 0 (cn 1) (cn 0 + 1) (fr, fw)).1 (x_frt lt ge gu op le 0 (cn 1) (cn 0 + 1) (fr, fw)).2 (11 * cn 0 + cn 1) (x_bat (x_frt lt ge gu op le 0 (cn 1) (cn 0 + 1) (fr, fw)).1 (cn 0) (cn 1)) k + (x_frt lt ge gu op le 0 (cn 1) (cn 0 + 1) (fr, fw)).2 (121 * k + (11 * cn 0 + cn 1)) := if_pos c_46
          exact ih (k + 1) (by omega) (by omega) _ _ _ hP hD hS (by rw [hh]; exact (lv_sub hl [0, 1, 2, 3, 4] rfl))
  refine lv_aload_n hx hb dX0_ways_0 rfl (lv_at hl 0 rfl) ?_
  refine tw_calli (n := 0) (rest := []) (wr := []) (w' := (xw q d cn lt ge gu op le ((x_frt lt ge gu op le 0 (cn 1) (cn 0 + 1) (fr, fw)).1) ((x_frt lt ge gu op le 0 (cn 1) (cn 0 + 1) (fr, fw)).2) bh 0 cc cs)) (kX0_best l D q d cn lt ge gu op le fr fw bh fd cc cs (by omega) (by omega)) S (lw_V q122 q82 q83 q20 q84) (by decide +kernel) ⟨Nat.le_of_ble_eq_true rfl, Nat.le_of_ble_eq_true rfl⟩ hK hP hD hS hA [0, 1, 2, 3, 4, 5, 6] [] [0, 1, 2, 3, 4, 5] rfl rfl (by decide) (by decide) (fun i h => absurd h List.not_mem_nil) rfl (ci := 0) rfl (q0 := 0) rfl rfl rfl hl.1 (Nat.le_of_ble_eq_true rfl) dX0_ways_1 ⟨Nat.zero_le _, Nat.zero_le _⟩ (fun H locs hP hD hS => ?_)
  have hP : va_P D vwCl (xw q d cn lt ge gu op le ((x_frt lt ge gu op le 0 (cn 1) (cn 0 + 1) (fr, fw)).1) ((x_frt lt ge gu op le 0 (cn 1) (cn 0 + 1) (fr, fw)).2) bh 0 cc cs) H := hP
  have hD : va_D A (xw q d cn lt ge gu op le ((x_frt lt ge gu op le 0 (cn 1) (cn 0 + 1) (fr, fw)).1) ((x_frt lt ge gu op le 0 (cn 1) (cn 0 + 1) (fr, fw)).2) bh 0 cc cs) := hD
  refine lv_istore_n (lv' := [(1, .int (x_bat (x_frt lt ge gu op le 0 (cn 1) (cn 0 + 1) (fr, fw)).1 (cn 0) (cn 1))), (0, .ref (q 0))]) hx hb dX0_ways_4 rfl hl (by decide) rfl (fun ls hl => ?_)
  refine lv_iconst (v := nI 0) hx hb dX0_ways_5 (by decide +kernel) ?_
  refine lv_istore_n (lv' := [(2, .int (nI 0)), (1, .int (x_bat (x_frt lt ge gu op le 0 (cn 1) (cn 0 + 1) (fr, fw)).1 (cn 0) (cn 1))), (0, .ref (q 0))]) hx hb dX0_ways_6 rfl hl (by decide) rfl (fun ls hl => ?_)
  refine lv_bipush (v := nI 11) hx hb dX0_ways_7 (by decide +kernel) ?_
  refine lv_aload_n hx hb dX0_ways_9 rfl (lv_at hl 2 rfl) ?_
  refine va_get (D := D) (ci := 0) (v := .ref (q 1)) (C := RX0) (T := TX0) (N := 12) hx hb hts in_X0 hown hK hP 0 rfl rfl 0 (by decide) (hts _ q30) (fun _ h9 => h9) rfl dX0_ways_10 ?_
  refine lv_iconst (v := nI 0) hx hb dX0_ways_13 (by decide +kernel) ?_
  refine tw_bald hx hb hK hP 1 0 rfl rfl (by omega) (by decide) dX0_ways_14 ?_
  refine tw_imul hx hb dX0_ways_15 ?_
  refine lv_aload_n hx hb dX0_ways_16 rfl (lv_at hl 2 rfl) ?_
  refine va_get (D := D) (ci := 0) (v := .ref (q 1)) (C := RX0) (T := TX0) (N := 12) hx hb hts in_X0 hown hK hP 0 rfl rfl 0 (by decide) (hts _ q30) (fun _ h9 => h9) rfl dX0_ways_17 ?_
  refine lv_iconst (v := nI 1) hx hb dX0_ways_20 (by decide +kernel) ?_
  refine tw_bald hx hb hK hP 1 0 rfl rfl (by omega) (by decide) dX0_ways_21 ?_
  refine tw_iadd hx hb dX0_ways_22 ?_
  refine lv_istore_n (lv' := [(3, .int (nI (11 * cn 0 + cn 1))), (2, .int (nI 0)), (1, .int (x_bat (x_frt lt ge gu op le 0 (cn 1) (cn 0 + 1) (fr, fw)).1 (cn 0) (cn 1))), (0, .ref (q 0))]) hx hb dX0_ways_23 rfl hl (by decide) rfl (fun ls hl => ?_)
  refine lv_iconst (v := nI 0) hx hb dX0_ways_24 (by decide +kernel) ?_
  refine lv_istore (lv' := [(4, .int (nI 0)), (3, .int (nI (11 * cn 0 + cn 1))), (2, .int (nI 0)), (1, .int (x_bat (x_frt lt ge gu op le 0 (cn 1) (cn 0 + 1) (fr, fw)).1 (cn 0) (cn 1))), (0, .ref (q 0))]) hx hb dX0_ways_25 hl (by decide) rfl (fun ls hl => ?_)
  exact loop 4 0 (by omega) (by omega) _ _ _ hP hD hS (lv_sub hl [0, 2, 1, 3, 4] rfl)
set_option maxHeartbeats 4000000 in
set_option maxRecDepth 100000 in
theorem kX0_local  (h1 : cn 0 ≤ 10) (h2 : cn 1 ≤ 10) : Ci l yX0_local cX0_local 5 .int 4 99 D vwCl (xt d) [.ref (q 0)] (xw q d cn lt ge gu op le fr fw bh fd cc cs) (al_mx2 (x_bat (x_frt lt ge gu op le 3 (cn 1) (cn 0 + 1) (fr, fw)).1) (cn 1 + 1) (nI 0) (cn 0 + 1)) (xw q d cn lt ge gu op le ((x_frt lt ge gu op le 3 (cn 1) (cn 0 + 1) (fr, fw)).1) ((x_frt lt ge gu op le 3 (cn 1) (cn 0 + 1) (fr, fw)).2) bh 3 cc cs) := by
  refine Ci.of (by decide +kernel) (Nat.le_of_ble_eq_true rfl) ?_
  intro p e s m below meth c A ls hx hb hr hlocks hml hown hts hK hP hD hS hA hl
  have hown : s.vm.findClass RX0 = some m.cls := hown
  have S : CallFix p m c cX0_local 5 s ([.ref (q 0)] : List Value).toArray lw_all RX0 := ⟨hx, hb, hml, hown, hts⟩
  have hl : lv_has ls 5 [(0, .ref (q 0))] := hl
  have loop : ∀ (n i : Nat), i ≤ cn 0 + 1 → cn 0 + 2 ≤ i + n → ∀ (H : Heap) (locs : List Loc) (ls : Array Slot), va_P D vwCl (xw q d cn lt ge gu op le ((x_frt lt ge gu op le 3 (cn 1) (cn 0 + 1) (fr, fw)).1) ((x_frt lt ge gu op le 3 (cn 1) (cn 0 + 1) (fr, fw)).2) bh 3 cc cs) H → va_D A (xw q d cn lt ge gu op le ((x_frt lt ge gu op le 3 (cn 1) (cn 0 + 1) (fr, fw)).1) ((x_frt lt ge gu op le 3 (cn 1) (cn 0 + 1) (fr, fw)).2) bh 3 cc cs) → va_S A s.heap H locs → lv_has ls 5 [(2, .int (nI i)), (1, .int (al_mx2 (x_bat (x_frt lt ge gu op le 3 (cn 1) (cn 0 + 1) (fr, fw)).1) (cn 1 + 1) (nI 0) i)), (0, .ref (q 0))] → W p l e (tw_rm 4 99) s m ([.ref (q 0)] : List Value).toArray below meth c H locs 0 0 (MQ below (tw_Qi D vwCl (xt d) (al_mx2 (x_bat (x_frt lt ge gu op le 3 (cn 1) (cn 0 + 1) (fr, fw)).1) (cn 1 + 1) (nI 0) (cn 0 + 1)) (xw q d cn lt ge gu op le ((x_frt lt ge gu op le 3 (cn 1) (cn 0 + 1) (fr, fw)).1) ((x_frt lt ge gu op le 3 (cn 1) (cn 0 + 1) (fr, fw)).2) bh 3 cc cs) A) ([.ref (q 0)] : List Value).toArray s 0 0 A) (F0 m 9 ls []) := by
    intro n
    induction n with
    | zero => intro k hk hn; exact absurd hn (by omega)
    | succ n ih =>
      intro i hi hn H locs ls hP hD hS hl
      refine lv_iload_n hx hb dX0_local_9 rfl (lv_at hl 0 rfl) ?_
      refine lv_aload_n hx hb dX0_local_10 rfl (lv_at hl 2 rfl) ?_
      refine va_get (D := D) (ci := 0) (v := .ref (q 1)) (C := RX0) (T := TX0) (N := 12) hx hb hts in_X0 hown hK hP 0 rfl rfl 0 (by decide) (hts _ q30) (fun _ h9 => h9) rfl dX0_local_11 ?_
      refine lv_iconst (v := nI 0) hx hb dX0_local_14 (by decide +kernel) ?_
      refine tw_bald hx hb hK hP 1 0 rfl rfl (by omega) (by decide) dX0_local_15 ?_
      refine tw_icmp_gt (tgt := 60) hx hb (by omega) (by omega) dX0_local_16 (by decide) (fun c_16 => ?_) (fun c_16 => ?_)
      · 
        have hi3 : i = cn 0 + 1 := by omega
        subst hi3
        refine lv_iload_n hx hb dX0_local_60 rfl (lv_at hl 1 rfl) ?_
        exact tw_iret hx hb hr hlocks hK hP hD hS (rfl) dX0_local_61
      · 
        have inner : ∀ (n j : Nat), j ≤ cn 1 + 1 → cn 1 + 2 ≤ j + n → ∀ (H : Heap) (locs : List Loc) (ls : Array Slot), va_P D vwCl (xw q d cn lt ge gu op le ((x_frt lt ge gu op le 3 (cn 1) (cn 0 + 1) (fr, fw)).1) ((x_frt lt ge gu op le 3 (cn 1) (cn 0 + 1) (fr, fw)).2) bh 3 cc cs) H → va_D A (xw q d cn lt ge gu op le ((x_frt lt ge gu op le 3 (cn 1) (cn 0 + 1) (fr, fw)).1) ((x_frt lt ge gu op le 3 (cn 1) (cn 0 + 1) (fr, fw)).2) bh 3 cc cs) → va_S A s.heap H locs → lv_has ls 5 [(3, .int (nI j)), (1, .int (al_mx (x_bat (x_frt lt ge gu op le 3 (cn 1) (cn 0 + 1) (fr, fw)).1 i) (al_mx2 (x_bat (x_frt lt ge gu op le 3 (cn 1) (cn 0 + 1) (fr, fw)).1) (cn 1 + 1) (nI 0) i) j)), (2, .int (nI i)), (0, .ref (q 0))] → W p l e (tw_rm 4 99) s m ([.ref (q 0)] : List Value).toArray below meth c H locs 0 0 (MQ below (tw_Qi D vwCl (xt d) (al_mx2 (x_bat (x_frt lt ge gu op le 3 (cn 1) (cn 0 + 1) (fr, fw)).1) (cn 1 + 1) (nI 0) (cn 0 + 1)) (xw q d cn lt ge gu op le ((x_frt lt ge gu op le 3 (cn 1) (cn 0 + 1) (fr, fw)).1) ((x_frt lt ge gu op le 3 (cn 1) (cn 0 + 1) (fr, fw)).2) bh 3 cc cs) A) ([.ref (q 0)] : List Value).toArray s 0 0 A) (F0 m 21 ls []) := by
          intro n2
          induction n2 with
          | zero => intro k hk hn; exact absurd hn (by omega)
          | succ n2 ih2 =>
            intro j hj hn2 H locs ls hP hD hS hl
            refine lv_iload_n hx hb dX0_local_21 rfl (lv_at hl 0 rfl) ?_
            refine lv_aload_n hx hb dX0_local_22 rfl (lv_at hl 3 rfl) ?_
            refine va_get (D := D) (ci := 0) (v := .ref (q 1)) (C := RX0) (T := TX0) (N := 12) hx hb hts in_X0 hown hK hP 0 rfl rfl 0 (by decide) (hts _ q30) (fun _ h9 => h9) rfl dX0_local_23 ?_
            refine lv_iconst (v := nI 1) hx hb dX0_local_26 (by decide +kernel) ?_
            refine tw_bald hx hb hK hP 1 0 rfl rfl (by omega) (by decide) dX0_local_27 ?_
            refine tw_icmp_gt (tgt := 54) hx hb (by omega) (by omega) dX0_local_28 (by decide) (fun c_28 => ?_) (fun c_28 => ?_)
            · 
              have hj3 : j = cn 1 + 1 := by omega
              subst hj3
              refine tw_iinc (lv' := [(2, .int (nI (i + 1))), (3, .int (nI (cn 1 + 1))), (1, .int (al_mx (x_bat (x_frt lt ge gu op le 3 (cn 1) (cn 0 + 1) (fr, fw)).1 i) (al_mx2 (x_bat (x_frt lt ge gu op le 3 (cn 1) (cn 0 + 1) (fr, fw)).1) (cn 1 + 1) (nI 0) i) (cn 1 + 1))), (0, .ref (q 0))]) hx hb dX0_local_54 hl (k := 2) rfl (by decide) rfl (fun ls hl => ?_)
              refine lv_goto (tgt := 9) hx hb dX0_local_57 (by decide) ?_
              exact ih (i + 1) (by omega) (by omega) _ _ _ hP hD hS (lv_sub hl [0, 2, 3] rfl)
            · 
              refine lv_aload_n hx hb dX0_local_31 rfl (lv_at hl 3 rfl) ?_
              refine lv_iload_n hx hb dX0_local_32 rfl (lv_at hl 2 rfl) ?_
              refine lv_iload_n hx hb dX0_local_33 rfl (lv_at hl 0 rfl) ?_
              refine tw_calli (n := 2) (rest := []) (wr := []) (w' := (xw q d cn lt ge gu op le ((x_frt lt ge gu op le 3 (cn 1) (cn 0 + 1) (fr, fw)).1) ((x_frt lt ge gu op le 3 (cn 1) (cn 0 + 1) (fr, fw)).2) bh 3 cc cs)) (kX0_bestAt l D q d cn lt ge gu op le ((x_frt lt ge gu op le 3 (cn 1) (cn 0 + 1) (fr, fw)).1) ((x_frt lt ge gu op le 3 (cn 1) (cn 0 + 1) (fr, fw)).2) bh 3 cc cs i j (by omega) (by omega)) S (lw_V q114 q116 qs7 q20 q117) (by decide +kernel) ⟨Nat.le_of_ble_eq_true rfl, Nat.le_of_ble_eq_true rfl⟩ hK hP hD hS hA [0, 1, 2, 3, 4, 5, 6] [] [0, 1, 2, 3, 4, 5] rfl rfl (by decide) (by decide) (fun i h => absurd h List.not_mem_nil) rfl (ci := 0) rfl (q0 := 0) rfl rfl rfl hl.1 (Nat.le_of_ble_eq_true rfl) dX0_local_34 ⟨Nat.zero_le _, Nat.zero_le _⟩ (fun H locs hP hD hS => ?_)
              have hP : va_P D vwCl (xw q d cn lt ge gu op le ((x_frt lt ge gu op le 3 (cn 1) (cn 0 + 1) (fr, fw)).1) ((x_frt lt ge gu op le 3 (cn 1) (cn 0 + 1) (fr, fw)).2) bh 3 cc cs) H := hP
              have hD : va_D A (xw q d cn lt ge gu op le ((x_frt lt ge gu op le 3 (cn 1) (cn 0 + 1) (fr, fw)).1) ((x_frt lt ge gu op le 3 (cn 1) (cn 0 + 1) (fr, fw)).2) bh 3 cc cs) := hD
              refine lv_istore (lv' := [(4, .int (x_bat ((x_frt lt ge gu op le 3 (cn 1) (cn 0 + 1) (fr, fw)).1) i j)), (3, .int (nI j)), (1, .int (al_mx (x_bat (x_frt lt ge gu op le 3 (cn 1) (cn 0 + 1) (fr, fw)).1 i) (al_mx2 (x_bat (x_frt lt ge gu op le 3 (cn 1) (cn 0 + 1) (fr, fw)).1) (cn 1 + 1) (nI 0) i) j)), (2, .int (nI i)), (0, .ref (q 0))]) hx hb dX0_local_37 hl (by decide) rfl (fun ls hl => ?_)
              refine lv_iload hx hb dX0_local_39 (lv_at hl 0 rfl) ?_
              refine lv_iload_n hx hb dX0_local_41 rfl (lv_at hl 2 rfl) ?_
              refine lv_icmp_le (tgt := 48) hx hb dX0_local_42 (by decide) (fun c_42 => ?_) (fun c_42 => ?_)
              · 
                refine tw_iinc (lv' := [(3, .int (nI (j + 1))), (4, .int (x_bat ((x_frt lt ge gu op le 3 (cn 1) (cn 0 + 1) (fr, fw)).1) i j)), (1, .int (al_mx (x_bat (x_frt lt ge gu op le 3 (cn 1) (cn 0 + 1) (fr, fw)).1 i) (al_mx2 (x_bat (x_frt lt ge gu op le 3 (cn 1) (cn 0 + 1) (fr, fw)).1) (cn 1 + 1) (nI 0) i) j)), (2, .int (nI i)), (0, .ref (q 0))]) hx hb dX0_local_48 hl (k := 1) rfl (by decide) rfl (fun ls hl => ?_)
                refine lv_goto (tgt := 21) hx hb dX0_local_51 (by decide) ?_
                have hh : al_mx (x_bat (x_frt lt ge gu op le 3 (cn 1) (cn 0 + 1) (fr, fw)).1 i) (al_mx2 (x_bat (x_frt lt ge gu op le 3 (cn 1) (cn 0 + 1) (fr, fw)).1) (cn 1 + 1) (nI 0) i) (j + 1) = al_mx (x_bat (x_frt lt ge gu op le 3 (cn 1) (cn 0 + 1) (fr, fw)).1 i) (al_mx2 (x_bat (x_frt lt ge gu op le 3 (cn 1) (cn 0 + 1) (fr, fw)).1) (cn 1 + 1) (nI 0) i) j := if_pos c_42
                exact ih2 (j + 1) (by omega) (by omega) _ _ _ hP hD hS (by rw [hh]; exact (lv_sub hl [0, 2, 3, 4] rfl))
              · 
                refine lv_iload hx hb dX0_local_45 (lv_at hl 0 rfl) ?_
                refine lv_istore_n (lv' := [(1, .int (x_bat ((x_frt lt ge gu op le 3 (cn 1) (cn 0 + 1) (fr, fw)).1) i j)), (4, .int (x_bat ((x_frt lt ge gu op le 3 (cn 1) (cn 0 + 1) (fr, fw)).1) i j)), (3, .int (nI j)), (2, .int (nI i)), (0, .ref (q 0))]) hx hb dX0_local_47 rfl hl (by decide) rfl (fun ls hl => ?_)
                refine tw_iinc (lv' := [(3, .int (nI (j + 1))), (1, .int (x_bat ((x_frt lt ge gu op le 3 (cn 1) (cn 0 + 1) (fr, fw)).1) i j)), (4, .int (x_bat ((x_frt lt ge gu op le 3 (cn 1) (cn 0 + 1) (fr, fw)).1) i j)), (2, .int (nI i)), (0, .ref (q 0))]) hx hb dX0_local_48 hl (k := 2) rfl (by decide) rfl (fun ls hl => ?_)
                refine lv_goto (tgt := 21) hx hb dX0_local_51 (by decide) ?_
                have hh : al_mx (x_bat (x_frt lt ge gu op le 3 (cn 1) (cn 0 + 1) (fr, fw)).1 i) (al_mx2 (x_bat (x_frt lt ge gu op le 3 (cn 1) (cn 0 + 1) (fr, fw)).1) (cn 1 + 1) (nI 0) i) (j + 1) = x_bat (x_frt lt ge gu op le 3 (cn 1) (cn 0 + 1) (fr, fw)).1 i j := if_neg c_42
                exact ih2 (j + 1) (by omega) (by omega) _ _ _ hP hD hS (by rw [hh]; exact (lv_sub hl [0, 1, 3, 4] rfl))
        refine lv_iconst (v := nI 0) hx hb dX0_local_19 (by decide +kernel) ?_
        refine lv_istore_n (lv' := [(3, .int (nI 0)), (2, .int (nI i)), (1, .int (al_mx2 (x_bat (x_frt lt ge gu op le 3 (cn 1) (cn 0 + 1) (fr, fw)).1) (cn 1 + 1) (nI 0) i)), (0, .ref (q 0))]) hx hb dX0_local_20 rfl hl (by decide) rfl (fun ls hl => ?_)
        exact inner (cn 1 + 2) 0 (by omega) (by omega) _ _ _ hP hD hS (lv_sub hl [0, 2, 1, 3] rfl)
  refine lv_aload_n hx hb dX0_local_0 rfl (lv_at hl 0 rfl) ?_
  refine lv_iconst (v := nI 3) hx hb dX0_local_1 (by decide +kernel) ?_
  refine tw_callv (n := 1) (rest := []) (wr := []) (w' := (xw q d cn lt ge gu op le ((x_frt lt ge gu op le 3 (cn 1) (cn 0 + 1) (fr, fw)).1) ((x_frt lt ge gu op le 3 (cn 1) (cn 0 + 1) (fr, fw)).2) bh 3 cc cs)) (kX0_fillFront l D q d cn lt ge gu op le fr fw bh fd cc cs 3 (by omega) (by omega) (by omega)) S (lw_V q85 q87 qs0 q20 q88) (by decide +kernel) ⟨Nat.le_of_ble_eq_true rfl, Nat.le_of_ble_eq_true rfl⟩ hK hP hD hS hA [0, 1, 2, 3, 4, 5, 6] [] [0, 1, 2, 3, 4, 5] rfl rfl (by decide) (by decide) (fun i h => absurd h List.not_mem_nil) rfl (ci := 0) rfl (q0 := 0) rfl rfl rfl hl.1 (Nat.le_of_ble_eq_true rfl) dX0_local_2 ⟨Nat.zero_le _, Nat.zero_le _⟩ (fun H locs hP hD hS => ?_)
  have hP : va_P D vwCl (xw q d cn lt ge gu op le ((x_frt lt ge gu op le 3 (cn 1) (cn 0 + 1) (fr, fw)).1) ((x_frt lt ge gu op le 3 (cn 1) (cn 0 + 1) (fr, fw)).2) bh 3 cc cs) H := hP
  have hD : va_D A (xw q d cn lt ge gu op le ((x_frt lt ge gu op le 3 (cn 1) (cn 0 + 1) (fr, fw)).1) ((x_frt lt ge gu op le 3 (cn 1) (cn 0 + 1) (fr, fw)).2) bh 3 cc cs) := hD
  refine lv_iconst (v := nI 0) hx hb dX0_local_5 (by decide +kernel) ?_
  refine lv_istore_n (lv' := [(1, .int (nI 0)), (0, .ref (q 0))]) hx hb dX0_local_6 rfl hl (by decide) rfl (fun ls hl => ?_)
  refine lv_iconst (v := nI 0) hx hb dX0_local_7 (by decide +kernel) ?_
  refine lv_istore_n (lv' := [(2, .int (nI 0)), (1, .int (nI 0)), (0, .ref (q 0))]) hx hb dX0_local_8 rfl hl (by decide) rfl (fun ls hl => ?_)
  exact loop (cn 0 + 2) 0 (by omega) (by omega) _ _ _ hP hD hS (lv_sub hl [0, 1, 2] rfl)
set_option maxHeartbeats 4000000 in
set_option maxRecDepth 100000 in
theorem kX0_fitted  (h1 : cn 0 ≤ 10) (h2 : cn 1 ≤ 10) : Ci l yX0_fitted cX0_fitted 4 .int 4 99 D vwCl (xt d) [.ref (q 0)] (xw q d cn lt ge gu op le fr fw bh fd cc cs) (al_mx (x_bat (x_frt lt ge gu op le 1 (cn 1) (cn 0 + 1) (fr, fw)).1 (cn 0)) (-100000) (cn 1 + 1)) (xw q d cn lt ge gu op le ((x_frt lt ge gu op le 1 (cn 1) (cn 0 + 1) (fr, fw)).1) ((x_frt lt ge gu op le 1 (cn 1) (cn 0 + 1) (fr, fw)).2) bh 1 cc cs) := by
  refine Ci.of (by decide +kernel) (Nat.le_of_ble_eq_true rfl) ?_
  intro p e s m below meth c A ls hx hb hr hlocks hml hown hts hK hP hD hS hA hl
  have hown : s.vm.findClass RX0 = some m.cls := hown
  have S : CallFix p m c cX0_fitted 4 s ([.ref (q 0)] : List Value).toArray lw_all RX0 := ⟨hx, hb, hml, hown, hts⟩
  have hl : lv_has ls 4 [(0, .ref (q 0))] := hl
  have loop : ∀ (n j : Nat), j ≤ cn 1 + 1 → cn 1 + 2 ≤ j + n → ∀ (H : Heap) (locs : List Loc) (ls : Array Slot), va_P D vwCl (xw q d cn lt ge gu op le ((x_frt lt ge gu op le 1 (cn 1) (cn 0 + 1) (fr, fw)).1) ((x_frt lt ge gu op le 1 (cn 1) (cn 0 + 1) (fr, fw)).2) bh 1 cc cs) H → va_D A (xw q d cn lt ge gu op le ((x_frt lt ge gu op le 1 (cn 1) (cn 0 + 1) (fr, fw)).1) ((x_frt lt ge gu op le 1 (cn 1) (cn 0 + 1) (fr, fw)).2) bh 1 cc cs) → va_S A s.heap H locs → lv_has ls 4 [(2, .int (nI j)), (1, .int (al_mx (x_bat (x_frt lt ge gu op le 1 (cn 1) (cn 0 + 1) (fr, fw)).1 (cn 0)) (-100000) j)), (0, .ref (q 0))] → W p l e (tw_rm 4 99) s m ([.ref (q 0)] : List Value).toArray below meth c H locs 0 0 (MQ below (tw_Qi D vwCl (xt d) (al_mx (x_bat (x_frt lt ge gu op le 1 (cn 1) (cn 0 + 1) (fr, fw)).1 (cn 0)) (-100000) (cn 1 + 1)) (xw q d cn lt ge gu op le ((x_frt lt ge gu op le 1 (cn 1) (cn 0 + 1) (fr, fw)).1) ((x_frt lt ge gu op le 1 (cn 1) (cn 0 + 1) (fr, fw)).2) bh 1 cc cs) A) ([.ref (q 0)] : List Value).toArray s 0 0 A) (F0 m 10 ls []) := by
    intro n
    induction n with
    | zero => intro k hk hn; exact absurd hn (by omega)
    | succ n ih =>
      intro j hj hn H locs ls hP hD hS hl
      refine lv_iload_n hx hb dX0_fitted_10 rfl (lv_at hl 0 rfl) ?_
      refine lv_aload_n hx hb dX0_fitted_11 rfl (lv_at hl 2 rfl) ?_
      refine va_get (D := D) (ci := 0) (v := .ref (q 1)) (C := RX0) (T := TX0) (N := 12) hx hb hts in_X0 hown hK hP 0 rfl rfl 0 (by decide) (hts _ q30) (fun _ h9 => h9) rfl dX0_fitted_12 ?_
      refine lv_iconst (v := nI 1) hx hb dX0_fitted_15 (by decide +kernel) ?_
      refine tw_bald hx hb hK hP 1 0 rfl rfl (by omega) (by decide) dX0_fitted_16 ?_
      refine tw_icmp_gt (tgt := 45) hx hb (by omega) (by omega) dX0_fitted_17 (by decide) (fun c_17 => ?_) (fun c_17 => ?_)
      · 
        have hj3 : j = cn 1 + 1 := by omega
        subst hj3
        refine lv_iload_n hx hb dX0_fitted_45 rfl (lv_at hl 1 rfl) ?_
        exact tw_iret hx hb hr hlocks hK hP hD hS (rfl) dX0_fitted_46
      · 
        refine lv_aload_n hx hb dX0_fitted_20 rfl (lv_at hl 2 rfl) ?_
        refine lv_aload_n hx hb dX0_fitted_21 rfl (lv_at hl 2 rfl) ?_
        refine va_get (D := D) (ci := 0) (v := .ref (q 1)) (C := RX0) (T := TX0) (N := 12) hx hb hts in_X0 hown hK hP 0 rfl rfl 0 (by decide) (hts _ q30) (fun _ h9 => h9) rfl dX0_fitted_22 ?_
        refine lv_iconst (v := nI 0) hx hb dX0_fitted_25 (by decide +kernel) ?_
        refine tw_bald hx hb hK hP 1 0 rfl rfl (by omega) (by decide) dX0_fitted_26 ?_
        refine lv_iload_n hx hb dX0_fitted_27 rfl (lv_at hl 0 rfl) ?_
        refine tw_calli (n := 2) (rest := []) (wr := []) (w' := (xw q d cn lt ge gu op le ((x_frt lt ge gu op le 1 (cn 1) (cn 0 + 1) (fr, fw)).1) ((x_frt lt ge gu op le 1 (cn 1) (cn 0 + 1) (fr, fw)).2) bh 1 cc cs)) (kX0_bestAt l D q d cn lt ge gu op le ((x_frt lt ge gu op le 1 (cn 1) (cn 0 + 1) (fr, fw)).1) ((x_frt lt ge gu op le 1 (cn 1) (cn 0 + 1) (fr, fw)).2) bh 1 cc cs (cn 0) j (by omega) (by omega)) S (lw_V q114 q116 qs7 q20 q117) (by decide +kernel) ⟨Nat.le_of_ble_eq_true rfl, Nat.le_of_ble_eq_true rfl⟩ hK hP hD hS hA [0, 1, 2, 3, 4, 5, 6] [] [0, 1, 2, 3, 4, 5] rfl rfl (by decide) (by decide) (fun i h => absurd h List.not_mem_nil) rfl (ci := 0) rfl (q0 := 0) rfl rfl rfl hl.1 (Nat.le_of_ble_eq_true rfl) dX0_fitted_28 ⟨Nat.zero_le _, Nat.zero_le _⟩ (fun H locs hP hD hS => ?_)
        have hP : va_P D vwCl (xw q d cn lt ge gu op le ((x_frt lt ge gu op le 1 (cn 1) (cn 0 + 1) (fr, fw)).1) ((x_frt lt ge gu op le 1 (cn 1) (cn 0 + 1) (fr, fw)).2) bh 1 cc cs) H := hP
        have hD : va_D A (xw q d cn lt ge gu op le ((x_frt lt ge gu op le 1 (cn 1) (cn 0 + 1) (fr, fw)).1) ((x_frt lt ge gu op le 1 (cn 1) (cn 0 + 1) (fr, fw)).2) bh 1 cc cs) := hD
        refine lv_istore_n (lv' := [(3, .int (x_bat ((x_frt lt ge gu op le 1 (cn 1) (cn 0 + 1) (fr, fw)).1) (cn 0) j)), (2, .int (nI j)), (1, .int (al_mx (x_bat (x_frt lt ge gu op le 1 (cn 1) (cn 0 + 1) (fr, fw)).1 (cn 0)) (-100000) j)), (0, .ref (q 0))]) hx hb dX0_fitted_31 rfl hl (by decide) rfl (fun ls hl => ?_)
        refine lv_iload_n hx hb dX0_fitted_32 rfl (lv_at hl 0 rfl) ?_
        refine lv_iload_n hx hb dX0_fitted_33 rfl (lv_at hl 2 rfl) ?_
        refine lv_icmp_le (tgt := 39) hx hb dX0_fitted_34 (by decide) (fun c_34 => ?_) (fun c_34 => ?_)
        · 
          refine tw_iinc (lv' := [(2, .int (nI (j + 1))), (3, .int (x_bat ((x_frt lt ge gu op le 1 (cn 1) (cn 0 + 1) (fr, fw)).1) (cn 0) j)), (1, .int (al_mx (x_bat (x_frt lt ge gu op le 1 (cn 1) (cn 0 + 1) (fr, fw)).1 (cn 0)) (-100000) j)), (0, .ref (q 0))]) hx hb dX0_fitted_39 hl (k := 1) rfl (by decide) rfl (fun ls hl => ?_)
          refine lv_goto (tgt := 10) hx hb dX0_fitted_42 (by decide) ?_
          have hh : al_mx (x_bat (x_frt lt ge gu op le 1 (cn 1) (cn 0 + 1) (fr, fw)).1 (cn 0)) (-100000) (j + 1) = al_mx (x_bat (x_frt lt ge gu op le 1 (cn 1) (cn 0 + 1) (fr, fw)).1 (cn 0)) (-100000) j := if_pos c_34
          exact ih (j + 1) (by omega) (by omega) _ _ _ hP hD hS (by rw [hh]; exact (lv_sub hl [0, 2, 3] rfl))
        · 
          refine lv_iload_n hx hb dX0_fitted_37 rfl (lv_at hl 0 rfl) ?_
          refine lv_istore_n (lv' := [(1, .int (x_bat ((x_frt lt ge gu op le 1 (cn 1) (cn 0 + 1) (fr, fw)).1) (cn 0) j)), (3, .int (x_bat ((x_frt lt ge gu op le 1 (cn 1) (cn 0 + 1) (fr, fw)).1) (cn 0) j)), (2, .int (nI j)), (0, .ref (q 0))]) hx hb dX0_fitted_38 rfl hl (by decide) rfl (fun ls hl => ?_)
          refine tw_iinc (lv' := [(2, .int (nI (j + 1))), (1, .int (x_bat ((x_frt lt ge gu op le 1 (cn 1) (cn 0 + 1) (fr, fw)).1) (cn 0) j)), (3, .int (x_bat ((x_frt lt ge gu op le 1 (cn 1) (cn 0 + 1) (fr, fw)).1) (cn 0) j)), (0, .ref (q 0))]) hx hb dX0_fitted_39 hl (k := 2) rfl (by decide) rfl (fun ls hl => ?_)
          refine lv_goto (tgt := 10) hx hb dX0_fitted_42 (by decide) ?_
          have hh : al_mx (x_bat (x_frt lt ge gu op le 1 (cn 1) (cn 0 + 1) (fr, fw)).1 (cn 0)) (-100000) (j + 1) = x_bat (x_frt lt ge gu op le 1 (cn 1) (cn 0 + 1) (fr, fw)).1 (cn 0) j := if_neg c_34
          exact ih (j + 1) (by omega) (by omega) _ _ _ hP hD hS (by rw [hh]; exact (lv_sub hl [0, 1, 3] rfl))
  refine lv_aload_n hx hb dX0_fitted_0 rfl (lv_at hl 0 rfl) ?_
  refine lv_iconst (v := nI 1) hx hb dX0_fitted_1 (by decide +kernel) ?_
  refine tw_callv (n := 1) (rest := []) (wr := []) (w' := (xw q d cn lt ge gu op le ((x_frt lt ge gu op le 1 (cn 1) (cn 0 + 1) (fr, fw)).1) ((x_frt lt ge gu op le 1 (cn 1) (cn 0 + 1) (fr, fw)).2) bh 1 cc cs)) (kX0_fillFront l D q d cn lt ge gu op le fr fw bh fd cc cs 1 (by omega) (by omega) (by omega)) S (lw_V q85 q87 qs0 q20 q88) (by decide +kernel) ⟨Nat.le_of_ble_eq_true rfl, Nat.le_of_ble_eq_true rfl⟩ hK hP hD hS hA [0, 1, 2, 3, 4, 5, 6] [] [0, 1, 2, 3, 4, 5] rfl rfl (by decide) (by decide) (fun i h => absurd h List.not_mem_nil) rfl (ci := 0) rfl (q0 := 0) rfl rfl rfl hl.1 (Nat.le_of_ble_eq_true rfl) dX0_fitted_2 ⟨Nat.zero_le _, Nat.zero_le _⟩ (fun H locs hP hD hS => ?_)
  have hP : va_P D vwCl (xw q d cn lt ge gu op le ((x_frt lt ge gu op le 1 (cn 1) (cn 0 + 1) (fr, fw)).1) ((x_frt lt ge gu op le 1 (cn 1) (cn 0 + 1) (fr, fw)).2) bh 1 cc cs) H := hP
  have hD : va_D A (xw q d cn lt ge gu op le ((x_frt lt ge gu op le 1 (cn 1) (cn 0 + 1) (fr, fw)).1) ((x_frt lt ge gu op le 1 (cn 1) (cn 0 + 1) (fr, fw)).2) bh 1 cc cs) := hD
  refine lv_ldc (v := -100000) hx hb hown (hts _ q93) dX0_fitted_5 ?_
  refine lv_istore_n (lv' := [(1, .int (-100000)), (0, .ref (q 0))]) hx hb dX0_fitted_7 rfl hl (by decide) rfl (fun ls hl => ?_)
  refine lv_iconst (v := nI 0) hx hb dX0_fitted_8 (by decide +kernel) ?_
  refine lv_istore_n (lv' := [(2, .int (nI 0)), (1, .int (-100000)), (0, .ref (q 0))]) hx hb dX0_fitted_9 rfl hl (by decide) rfl (fun ls hl => ?_)
  exact loop (cn 1 + 2) 0 (by omega) (by omega) _ _ _ hP hD hS (lv_sub hl [0, 1, 2] rfl)
set_option maxHeartbeats 4000000 in
set_option maxRecDepth 100000 in
theorem kX0_overlap  (h1 : cn 0 ≤ 10) (h2 : cn 1 ≤ 10) : Ci l yX0_overlap cX0_overlap 4 .int 4 99 D vwCl (xt d) [.ref (q 0)] (xw q d cn lt ge gu op le fr fw bh fd cc cs) (al_mx (x_bat (x_frt lt ge gu op le 2 (cn 1) (cn 0 + 1) (fr, fw)).1 (cn 0)) (-100000) (cn 1 + 1)) (xw q d cn lt ge gu op le ((x_frt lt ge gu op le 2 (cn 1) (cn 0 + 1) (fr, fw)).1) ((x_frt lt ge gu op le 2 (cn 1) (cn 0 + 1) (fr, fw)).2) bh 2 cc cs) := by
  refine Ci.of (by decide +kernel) (Nat.le_of_ble_eq_true rfl) ?_
  intro p e s m below meth c A ls hx hb hr hlocks hml hown hts hK hP hD hS hA hl
  have hown : s.vm.findClass RX0 = some m.cls := hown
  have S : CallFix p m c cX0_overlap 4 s ([.ref (q 0)] : List Value).toArray lw_all RX0 := ⟨hx, hb, hml, hown, hts⟩
  have hl : lv_has ls 4 [(0, .ref (q 0))] := hl
  have loop : ∀ (n j : Nat), j ≤ cn 1 + 1 → cn 1 + 2 ≤ j + n → ∀ (H : Heap) (locs : List Loc) (ls : Array Slot), va_P D vwCl (xw q d cn lt ge gu op le ((x_frt lt ge gu op le 2 (cn 1) (cn 0 + 1) (fr, fw)).1) ((x_frt lt ge gu op le 2 (cn 1) (cn 0 + 1) (fr, fw)).2) bh 2 cc cs) H → va_D A (xw q d cn lt ge gu op le ((x_frt lt ge gu op le 2 (cn 1) (cn 0 + 1) (fr, fw)).1) ((x_frt lt ge gu op le 2 (cn 1) (cn 0 + 1) (fr, fw)).2) bh 2 cc cs) → va_S A s.heap H locs → lv_has ls 4 [(2, .int (nI j)), (1, .int (al_mx (x_bat (x_frt lt ge gu op le 2 (cn 1) (cn 0 + 1) (fr, fw)).1 (cn 0)) (-100000) j)), (0, .ref (q 0))] → W p l e (tw_rm 4 99) s m ([.ref (q 0)] : List Value).toArray below meth c H locs 0 0 (MQ below (tw_Qi D vwCl (xt d) (al_mx (x_bat (x_frt lt ge gu op le 2 (cn 1) (cn 0 + 1) (fr, fw)).1 (cn 0)) (-100000) (cn 1 + 1)) (xw q d cn lt ge gu op le ((x_frt lt ge gu op le 2 (cn 1) (cn 0 + 1) (fr, fw)).1) ((x_frt lt ge gu op le 2 (cn 1) (cn 0 + 1) (fr, fw)).2) bh 2 cc cs) A) ([.ref (q 0)] : List Value).toArray s 0 0 A) (F0 m 10 ls []) := by
    intro n
    induction n with
    | zero => intro k hk hn; exact absurd hn (by omega)
    | succ n ih =>
      intro j hj hn H locs ls hP hD hS hl
      refine lv_iload_n hx hb dX0_overlap_10 rfl (lv_at hl 0 rfl) ?_
      refine lv_aload_n hx hb dX0_overlap_11 rfl (lv_at hl 2 rfl) ?_
      refine va_get (D := D) (ci := 0) (v := .ref (q 1)) (C := RX0) (T := TX0) (N := 12) hx hb hts in_X0 hown hK hP 0 rfl rfl 0 (by decide) (hts _ q30) (fun _ h9 => h9) rfl dX0_overlap_12 ?_
      refine lv_iconst (v := nI 1) hx hb dX0_overlap_15 (by decide +kernel) ?_
      refine tw_bald hx hb hK hP 1 0 rfl rfl (by omega) (by decide) dX0_overlap_16 ?_
      refine tw_icmp_gt (tgt := 45) hx hb (by omega) (by omega) dX0_overlap_17 (by decide) (fun c_17 => ?_) (fun c_17 => ?_)
      · 
        have hj3 : j = cn 1 + 1 := by omega
        subst hj3
        refine lv_iload_n hx hb dX0_overlap_45 rfl (lv_at hl 1 rfl) ?_
        exact tw_iret hx hb hr hlocks hK hP hD hS (rfl) dX0_overlap_46
      · 
        refine lv_aload_n hx hb dX0_overlap_20 rfl (lv_at hl 2 rfl) ?_
        refine lv_aload_n hx hb dX0_overlap_21 rfl (lv_at hl 2 rfl) ?_
        refine va_get (D := D) (ci := 0) (v := .ref (q 1)) (C := RX0) (T := TX0) (N := 12) hx hb hts in_X0 hown hK hP 0 rfl rfl 0 (by decide) (hts _ q30) (fun _ h9 => h9) rfl dX0_overlap_22 ?_
        refine lv_iconst (v := nI 0) hx hb dX0_overlap_25 (by decide +kernel) ?_
        refine tw_bald hx hb hK hP 1 0 rfl rfl (by omega) (by decide) dX0_overlap_26 ?_
        refine lv_iload_n hx hb dX0_overlap_27 rfl (lv_at hl 0 rfl) ?_
        refine tw_calli (n := 2) (rest := []) (wr := []) (w' := (xw q d cn lt ge gu op le ((x_frt lt ge gu op le 2 (cn 1) (cn 0 + 1) (fr, fw)).1) ((x_frt lt ge gu op le 2 (cn 1) (cn 0 + 1) (fr, fw)).2) bh 2 cc cs)) (kX0_bestAt l D q d cn lt ge gu op le ((x_frt lt ge gu op le 2 (cn 1) (cn 0 + 1) (fr, fw)).1) ((x_frt lt ge gu op le 2 (cn 1) (cn 0 + 1) (fr, fw)).2) bh 2 cc cs (cn 0) j (by omega) (by omega)) S (lw_V q114 q116 qs7 q20 q117) (by decide +kernel) ⟨Nat.le_of_ble_eq_true rfl, Nat.le_of_ble_eq_true rfl⟩ hK hP hD hS hA [0, 1, 2, 3, 4, 5, 6] [] [0, 1, 2, 3, 4, 5] rfl rfl (by decide) (by decide) (fun i h => absurd h List.not_mem_nil) rfl (ci := 0) rfl (q0 := 0) rfl rfl rfl hl.1 (Nat.le_of_ble_eq_true rfl) dX0_overlap_28 ⟨Nat.zero_le _, Nat.zero_le _⟩ (fun H locs hP hD hS => ?_)
        have hP : va_P D vwCl (xw q d cn lt ge gu op le ((x_frt lt ge gu op le 2 (cn 1) (cn 0 + 1) (fr, fw)).1) ((x_frt lt ge gu op le 2 (cn 1) (cn 0 + 1) (fr, fw)).2) bh 2 cc cs) H := hP
        have hD : va_D A (xw q d cn lt ge gu op le ((x_frt lt ge gu op le 2 (cn 1) (cn 0 + 1) (fr, fw)).1) ((x_frt lt ge gu op le 2 (cn 1) (cn 0 + 1) (fr, fw)).2) bh 2 cc cs) := hD
        refine lv_istore_n (lv' := [(3, .int (x_bat ((x_frt lt ge gu op le 2 (cn 1) (cn 0 + 1) (fr, fw)).1) (cn 0) j)), (2, .int (nI j)), (1, .int (al_mx (x_bat (x_frt lt ge gu op le 2 (cn 1) (cn 0 + 1) (fr, fw)).1 (cn 0)) (-100000) j)), (0, .ref (q 0))]) hx hb dX0_overlap_31 rfl hl (by decide) rfl (fun ls hl => ?_)
        refine lv_iload_n hx hb dX0_overlap_32 rfl (lv_at hl 0 rfl) ?_
        refine lv_iload_n hx hb dX0_overlap_33 rfl (lv_at hl 2 rfl) ?_
        refine lv_icmp_le (tgt := 39) hx hb dX0_overlap_34 (by decide) (fun c_34 => ?_) (fun c_34 => ?_)
        · 
          refine tw_iinc (lv' := [(2, .int (nI (j + 1))), (3, .int (x_bat ((x_frt lt ge gu op le 2 (cn 1) (cn 0 + 1) (fr, fw)).1) (cn 0) j)), (1, .int (al_mx (x_bat (x_frt lt ge gu op le 2 (cn 1) (cn 0 + 1) (fr, fw)).1 (cn 0)) (-100000) j)), (0, .ref (q 0))]) hx hb dX0_overlap_39 hl (k := 1) rfl (by decide) rfl (fun ls hl => ?_)
          refine lv_goto (tgt := 10) hx hb dX0_overlap_42 (by decide) ?_
          have hh : al_mx (x_bat (x_frt lt ge gu op le 2 (cn 1) (cn 0 + 1) (fr, fw)).1 (cn 0)) (-100000) (j + 1) = al_mx (x_bat (x_frt lt ge gu op le 2 (cn 1) (cn 0 + 1) (fr, fw)).1 (cn 0)) (-100000) j := if_pos c_34
          exact ih (j + 1) (by omega) (by omega) _ _ _ hP hD hS (by rw [hh]; exact (lv_sub hl [0, 2, 3] rfl))
        · 
          refine lv_iload_n hx hb dX0_overlap_37 rfl (lv_at hl 0 rfl) ?_
          refine lv_istore_n (lv' := [(1, .int (x_bat ((x_frt lt ge gu op le 2 (cn 1) (cn 0 + 1) (fr, fw)).1) (cn 0) j)), (3, .int (x_bat ((x_frt lt ge gu op le 2 (cn 1) (cn 0 + 1) (fr, fw)).1) (cn 0) j)), (2, .int (nI j)), (0, .ref (q 0))]) hx hb dX0_overlap_38 rfl hl (by decide) rfl (fun ls hl => ?_)
          refine tw_iinc (lv' := [(2, .int (nI (j + 1))), (1, .int (x_bat ((x_frt lt ge gu op le 2 (cn 1) (cn 0 + 1) (fr, fw)).1) (cn 0) j)), (3, .int (x_bat ((x_frt lt ge gu op le 2 (cn 1) (cn 0 + 1) (fr, fw)).1) (cn 0) j)), (0, .ref (q 0))]) hx hb dX0_overlap_39 hl (k := 2) rfl (by decide) rfl (fun ls hl => ?_)
          refine lv_goto (tgt := 10) hx hb dX0_overlap_42 (by decide) ?_
          have hh : al_mx (x_bat (x_frt lt ge gu op le 2 (cn 1) (cn 0 + 1) (fr, fw)).1 (cn 0)) (-100000) (j + 1) = x_bat (x_frt lt ge gu op le 2 (cn 1) (cn 0 + 1) (fr, fw)).1 (cn 0) j := if_neg c_34
          exact ih (j + 1) (by omega) (by omega) _ _ _ hP hD hS (by rw [hh]; exact (lv_sub hl [0, 1, 3] rfl))
  refine lv_aload_n hx hb dX0_overlap_0 rfl (lv_at hl 0 rfl) ?_
  refine lv_iconst (v := nI 2) hx hb dX0_overlap_1 (by decide +kernel) ?_
  refine tw_callv (n := 1) (rest := []) (wr := []) (w' := (xw q d cn lt ge gu op le ((x_frt lt ge gu op le 2 (cn 1) (cn 0 + 1) (fr, fw)).1) ((x_frt lt ge gu op le 2 (cn 1) (cn 0 + 1) (fr, fw)).2) bh 2 cc cs)) (kX0_fillFront l D q d cn lt ge gu op le fr fw bh fd cc cs 2 (by omega) (by omega) (by omega)) S (lw_V q85 q87 qs0 q20 q88) (by decide +kernel) ⟨Nat.le_of_ble_eq_true rfl, Nat.le_of_ble_eq_true rfl⟩ hK hP hD hS hA [0, 1, 2, 3, 4, 5, 6] [] [0, 1, 2, 3, 4, 5] rfl rfl (by decide) (by decide) (fun i h => absurd h List.not_mem_nil) rfl (ci := 0) rfl (q0 := 0) rfl rfl rfl hl.1 (Nat.le_of_ble_eq_true rfl) dX0_overlap_2 ⟨Nat.zero_le _, Nat.zero_le _⟩ (fun H locs hP hD hS => ?_)
  have hP : va_P D vwCl (xw q d cn lt ge gu op le ((x_frt lt ge gu op le 2 (cn 1) (cn 0 + 1) (fr, fw)).1) ((x_frt lt ge gu op le 2 (cn 1) (cn 0 + 1) (fr, fw)).2) bh 2 cc cs) H := hP
  have hD : va_D A (xw q d cn lt ge gu op le ((x_frt lt ge gu op le 2 (cn 1) (cn 0 + 1) (fr, fw)).1) ((x_frt lt ge gu op le 2 (cn 1) (cn 0 + 1) (fr, fw)).2) bh 2 cc cs) := hD
  refine lv_ldc (v := -100000) hx hb hown (hts _ q93) dX0_overlap_5 ?_
  refine lv_istore_n (lv' := [(1, .int (-100000)), (0, .ref (q 0))]) hx hb dX0_overlap_7 rfl hl (by decide) rfl (fun ls hl => ?_)
  refine lv_iconst (v := nI 0) hx hb dX0_overlap_8 (by decide +kernel) ?_
  refine lv_istore_n (lv' := [(2, .int (nI 0)), (1, .int (-100000)), (0, .ref (q 0))]) hx hb dX0_overlap_9 rfl hl (by decide) rfl (fun ls hl => ?_)
  exact loop (cn 1 + 2) 0 (by omega) (by omega) _ _ _ hP hD hS (lv_sub hl [0, 1, 2] rfl)
end
end
section
/-! THE COMPONENT: the table from behind; findFirst, column, columns, paired; type, wipe, rules -/
theorem tw_nlt {a b : Int32} (h : b ≤ a) : ¬ a < b := by
  rw [Int32.le_iff_toInt_le] at h
  rw [Int32.lt_iff_toInt_lt]
  omega
theorem tw_nle {a b : Int32} (h : b < a) : ¬ a ≤ b := by
  rw [Int32.lt_iff_toInt_lt] at h
  rw [Int32.le_iff_toInt_le]
  omega
theorem tw_lt_of {a b : Int32} (h : ¬ b ≤ a) : a < b := by
  rw [Int32.le_iff_toInt_le] at h
  rw [Int32.lt_iff_toInt_lt]
  omega
theorem tw_le_of {a b : Int32} (h : ¬ b < a) : a ≤ b := by
  rw [Int32.lt_iff_toInt_lt] at h
  rw [Int32.le_iff_toInt_le]
  omega
theorem x_wcl_0 (lt : Nat → Int32) (ge gu op le : Int32) (n m : Nat) (bh : Nat → Int32) (i j last : Nat) : x_wcl lt ge gu op le n m bh i j last 0 = if i + 1 ≤ n ∧ j + 1 ≤ m then x_gain lt ge gu i j - x_cost op le last 0 + bh (121 * 0 + 11 * (i + 1) + (j + 1)) else -100000 := rfl
theorem x_wcl_1 (lt : Nat → Int32) (ge gu op le : Int32) (n m : Nat) (bh : Nat → Int32) (i j last : Nat) : x_wcl lt ge gu op le n m bh i j last 1 = if i + 1 ≤ n ∧ j ≤ m then nI 0 - x_cost op le last 1 + bh (121 * 1 + 11 * (i + 1) + j) else -100000 := rfl
theorem x_wcl_2 (lt : Nat → Int32) (ge gu op le : Int32) (n m : Nat) (bh : Nat → Int32) (i j last : Nat) : x_wcl lt ge gu op le n m bh i j last 2 = if i ≤ n ∧ j + 1 ≤ m then nI 0 - x_cost op le last 2 + bh (121 * 2 + 11 * i + (j + 1)) else -100000 := rfl
theorem x_srt_lt (lt : Nat → Int32) (ge gu op le : Int32) (n m : Nat) (bh : Nat → Int32) (i j last : Nat) : x_srt lt ge gu op le n m bh i j last < 3 := by
  unfold x_srt
  split
  · decide
  · split <;> decide
section
variable (l : Launch) (D : va_G) (q : Nat → Nat) (d : Nat → ClassId) (cn : Nat → Nat) (lt : Nat → Int32) (ge gu op le : Int32) (fr fw bh : Nat → Int32) (fd cc : Nat) (cs : Nat → Int32)
set_option maxHeartbeats 4000000 in
set_option maxRecDepth 100000 in
theorem kX0_withColumn (i : Nat) (j : Nat) (last : Nat) (sort : Nat) (h1 : i ≤ cn 0) (h2 : j ≤ cn 1) (h3 : cn 0 ≤ 10) (h4 : cn 1 ≤ 10) (h5 : last < 3) (h6 : sort < 3) : Ci l yX0_withColumn cX0_withColumn 8 .int 1 22 D vwCl (xt d) [.ref (q 0), .int (nI i), .int (nI j), .int (nI last), .int (nI sort)] (xw q d cn lt ge gu op le fr fw bh fd cc cs) (x_wcl lt ge gu op le (cn 0) (cn 1) bh i j last sort) (xw q d cn lt ge gu op le fr fw bh fd cc cs) := by
  refine Ci.of (by decide +kernel) (Nat.le_of_ble_eq_true rfl) ?_
  intro p e s m below meth c A ls hx hb hr hlocks hml hown hts hK hP hD hS hA hl
  have hown : s.vm.findClass RX0 = some m.cls := hown
  have S : CallFix p m c cX0_withColumn 8 s ([.ref (q 0), .int (nI i), .int (nI j), .int (nI last), .int (nI sort)] : List Value).toArray lw_all RX0 := ⟨hx, hb, hml, hown, hts⟩
  have hl : lv_has ls 8 [(0, .ref (q 0)), (1, .int (nI i)), (2, .int (nI j)), (3, .int (nI last)), (4, .int (nI sort))] := hl
  have h9 : sort = 0 ∨ sort = 1 ∨ sort = 2 := by omega
  rcases h9 with h9 | h9 | h9
  · 
    subst h9
    refine lv_iload hx hb dX0_withColumn_0 (lv_at hl 4 rfl) ?_
    refine lv_iconst (v := nI 2) hx hb dX0_withColumn_2 (by decide +kernel) ?_
    refine tw_icmp_ne (tgt := 10) hx hb (by omega) (by omega) dX0_withColumn_3 (by decide) (fun c_3 => ?_) (fun c_3 => False.elim (by omega))
    refine lv_iload_n hx hb dX0_withColumn_10 rfl (lv_at hl 1 rfl) ?_
    refine lv_iconst (v := nI 1) hx hb dX0_withColumn_11 (by decide +kernel) ?_
    refine tw_iadd hx hb dX0_withColumn_12 ?_
    refine lv_istore (lv' := [(5, .int (nI (i + 1))), (0, .ref (q 0)), (1, .int (nI i)), (2, .int (nI j)), (3, .int (nI last)), (4, .int (nI 0))]) hx hb dX0_withColumn_13 hl (by decide) rfl (fun ls hl => ?_)
    refine lv_iload hx hb dX0_withColumn_15 (lv_at hl 5 rfl) ?_
    refine lv_iconst (v := nI 1) hx hb dX0_withColumn_17 (by decide +kernel) ?_
    refine tw_icmp_ne (tgt := 25) hx hb (by omega) (by omega) dX0_withColumn_18 (by decide) (fun c_18 => ?_) (fun c_18 => False.elim (by omega))
    refine lv_iload_n hx hb dX0_withColumn_25 rfl (lv_at hl 3 rfl) ?_
    refine lv_iconst (v := nI 1) hx hb dX0_withColumn_26 (by decide +kernel) ?_
    refine tw_iadd hx hb dX0_withColumn_27 ?_
    refine lv_istore (lv' := [(6, .int (nI (j + 1))), (5, .int (nI (i + 1))), (0, .ref (q 0)), (1, .int (nI i)), (2, .int (nI j)), (3, .int (nI last)), (4, .int (nI 0))]) hx hb dX0_withColumn_28 hl (by decide) rfl (fun ls hl => ?_)
    refine lv_iload hx hb dX0_withColumn_30 (lv_at hl 1 rfl) ?_
    refine lv_aload_n hx hb dX0_withColumn_32 rfl (lv_at hl 2 rfl) ?_
    refine va_get (D := D) (ci := 0) (v := .ref (q 1)) (C := RX0) (T := TX0) (N := 12) hx hb hts in_X0 hown hK hP 0 rfl rfl 0 (by decide) (hts _ q30) (fun _ h9 => h9) rfl dX0_withColumn_33 ?_
    refine lv_iconst (v := nI 0) hx hb dX0_withColumn_36 (by decide +kernel) ?_
    refine tw_bald hx hb hK hP 1 0 rfl rfl (by omega) (by decide) dX0_withColumn_37 ?_
    refine tw_icmp_gt (tgt := 52) hx hb (by omega) (by omega) dX0_withColumn_38 (by decide) (fun c_38 => ?_) (fun c_38 => ?_)
    · 
      refine lv_ldc (v := -100000) hx hb hown (hts _ q93) dX0_withColumn_52 ?_
      exact tw_iret hx hb hr hlocks hK hP hD hS (by rw [x_wcl_0]; exact (if_neg (by omega)).symm) dX0_withColumn_54
    · 
      refine lv_iload hx hb dX0_withColumn_41 (lv_at hl 0 rfl) ?_
      refine lv_aload_n hx hb dX0_withColumn_43 rfl (lv_at hl 2 rfl) ?_
      refine va_get (D := D) (ci := 0) (v := .ref (q 1)) (C := RX0) (T := TX0) (N := 12) hx hb hts in_X0 hown hK hP 0 rfl rfl 0 (by decide) (hts _ q30) (fun _ h9 => h9) rfl dX0_withColumn_44 ?_
      refine lv_iconst (v := nI 1) hx hb dX0_withColumn_47 (by decide +kernel) ?_
      refine tw_bald hx hb hK hP 1 0 rfl rfl (by omega) (by decide) dX0_withColumn_48 ?_
      refine tw_icmp_le (tgt := 55) hx hb (by omega) (by omega) dX0_withColumn_49 (by decide) (fun c_49 => ?_) (fun c_49 => ?_)
      · 
        refine lv_iload hx hb dX0_withColumn_55 (lv_at hl 6 rfl) ?_
        refine tw_if_ne (tgt := 69) hx hb (by omega) dX0_withColumn_57 (by decide) (fun c_57 => False.elim (by omega)) (fun c_57 => ?_)
        refine lv_aload_n hx hb dX0_withColumn_60 rfl (lv_at hl 2 rfl) ?_
        refine lv_iload_n hx hb dX0_withColumn_61 rfl (lv_at hl 3 rfl) ?_
        refine lv_iload_n hx hb dX0_withColumn_62 rfl (lv_at hl 4 rfl) ?_
        refine tw_calli (n := 2) (rest := []) (wr := []) (w' := (xw q d cn lt ge gu op le fr fw bh fd cc cs)) (kX0_gain l D q d cn lt ge gu op le fr fw bh fd cc cs i j (by omega) (by omega)) S (lw_V q102 q104 qs4 q20 q105) (by decide +kernel) ⟨Nat.le_of_ble_eq_true rfl, Nat.le_of_ble_eq_true rfl⟩ hK hP hD hS hA [0, 1, 2, 3, 4, 5, 6] [] [0, 1, 2, 3, 4, 5] rfl rfl (by decide) (by decide) (fun i h => absurd h List.not_mem_nil) rfl (ci := 0) rfl (q0 := 0) rfl rfl rfl hl.1 (Nat.le_of_ble_eq_true rfl) dX0_withColumn_63 ⟨Nat.zero_le _, Nat.zero_le _⟩ (fun H locs hP hD hS => ?_)
        have hP : va_P D vwCl (xw q d cn lt ge gu op le fr fw bh fd cc cs) H := hP
        have hD : va_D A (xw q d cn lt ge gu op le fr fw bh fd cc cs) := hD
        refine lv_goto (tgt := 70) hx hb dX0_withColumn_66 (by decide) ?_
        refine lv_istore (lv' := [(7, .int (x_gain lt ge gu i j)), (6, .int (nI (j + 1))), (5, .int (nI (i + 1))), (0, .ref (q 0)), (1, .int (nI i)), (2, .int (nI j)), (3, .int (nI last)), (4, .int (nI 0))]) hx hb dX0_withColumn_70 hl (by decide) rfl (fun ls hl => ?_)
        refine lv_iload hx hb dX0_withColumn_72 (lv_at hl 0 rfl) ?_
        refine lv_aload_n hx hb dX0_withColumn_74 rfl (lv_at hl 3 rfl) ?_
        refine lv_iload_n hx hb dX0_withColumn_75 rfl (lv_at hl 6 rfl) ?_
        refine lv_iload hx hb dX0_withColumn_76 (lv_at hl 7 rfl) ?_
        refine tw_calli (n := 2) (rest := [.int (x_gain lt ge gu i j)]) (wr := []) (w' := (xw q d cn lt ge gu op le fr fw bh fd cc cs)) (kX0_costOf l D q d cn lt ge gu op le fr fw bh fd cc cs last 0 (by omega) (by omega)) S (lw_V q110 q112 qs6 q20 q113) (by decide +kernel) ⟨Nat.le_of_ble_eq_true rfl, Nat.le_of_ble_eq_true rfl⟩ hK hP hD hS hA [0, 1, 2, 3, 4, 5, 6] [] [0, 1, 2, 3, 4, 5] rfl rfl (by decide) (by decide) (fun i h => absurd h List.not_mem_nil) rfl (ci := 0) rfl (q0 := 0) rfl rfl rfl hl.1 (Nat.le_of_ble_eq_true rfl) dX0_withColumn_78 ⟨Nat.zero_le _, Nat.zero_le _⟩ (fun H locs hP hD hS => ?_)
        have hP : va_P D vwCl (xw q d cn lt ge gu op le fr fw bh fd cc cs) H := hP
        have hD : va_D A (xw q d cn lt ge gu op le fr fw bh fd cc cs) := hD
        refine lv_isub hx hb dX0_withColumn_81 ?_
        refine lv_aload_n hx hb dX0_withColumn_82 rfl (lv_at hl 3 rfl) ?_
        refine va_get (D := D) (ci := 0) (v := .ref (q 5)) (C := RX0) (T := TX0) (N := 12) hx hb hts in_X0 hown hK hP 0 rfl rfl 8 (by decide) (hts _ q38) (fun _ h9 => h9) rfl dX0_withColumn_83 ?_
        refine lv_bipush (v := nI 121) hx hb dX0_withColumn_86 (by decide +kernel) ?_
        refine lv_iload hx hb dX0_withColumn_88 (lv_at hl 7 rfl) ?_
        refine tw_imul hx hb dX0_withColumn_90 ?_
        refine lv_bipush (v := nI 11) hx hb dX0_withColumn_91 (by decide +kernel) ?_
        refine lv_iload hx hb dX0_withColumn_93 (lv_at hl 2 rfl) ?_
        refine tw_imul hx hb dX0_withColumn_95 ?_
        refine tw_iadd hx hb dX0_withColumn_96 ?_
        refine lv_iload hx hb dX0_withColumn_97 (lv_at hl 1 rfl) ?_
        refine tw_iadd hx hb dX0_withColumn_99 ?_
        refine tw_iald hx hb hK hP 5 4 rfl rfl (by omega) (by decide) dX0_withColumn_100 ?_
        refine lv_iadd hx hb dX0_withColumn_101 ?_
        exact tw_iret hx hb hr hlocks hK hP hD hS (by rw [x_wcl_0]; exact (if_pos ⟨by omega, by omega⟩).symm) dX0_withColumn_102
      · 
        refine lv_ldc (v := -100000) hx hb hown (hts _ q93) dX0_withColumn_52 ?_
        exact tw_iret hx hb hr hlocks hK hP hD hS (by rw [x_wcl_0]; exact (if_neg (by omega)).symm) dX0_withColumn_54
  · 
    subst h9
    refine lv_iload hx hb dX0_withColumn_0 (lv_at hl 4 rfl) ?_
    refine lv_iconst (v := nI 2) hx hb dX0_withColumn_2 (by decide +kernel) ?_
    refine tw_icmp_ne (tgt := 10) hx hb (by omega) (by omega) dX0_withColumn_3 (by decide) (fun c_3 => ?_) (fun c_3 => False.elim (by omega))
    refine lv_iload_n hx hb dX0_withColumn_10 rfl (lv_at hl 1 rfl) ?_
    refine lv_iconst (v := nI 1) hx hb dX0_withColumn_11 (by decide +kernel) ?_
    refine tw_iadd hx hb dX0_withColumn_12 ?_
    refine lv_istore (lv' := [(5, .int (nI (i + 1))), (0, .ref (q 0)), (1, .int (nI i)), (2, .int (nI j)), (3, .int (nI last)), (4, .int (nI 1))]) hx hb dX0_withColumn_13 hl (by decide) rfl (fun ls hl => ?_)
    refine lv_iload hx hb dX0_withColumn_15 (lv_at hl 5 rfl) ?_
    refine lv_iconst (v := nI 1) hx hb dX0_withColumn_17 (by decide +kernel) ?_
    refine tw_icmp_ne (tgt := 25) hx hb (by omega) (by omega) dX0_withColumn_18 (by decide) (fun c_18 => False.elim (by omega)) (fun c_18 => ?_)
    refine lv_iload_n hx hb dX0_withColumn_21 rfl (lv_at hl 3 rfl) ?_
    refine lv_goto (tgt := 28) hx hb dX0_withColumn_22 (by decide) ?_
    refine lv_istore (lv' := [(6, .int (nI j)), (5, .int (nI (i + 1))), (0, .ref (q 0)), (1, .int (nI i)), (2, .int (nI j)), (3, .int (nI last)), (4, .int (nI 1))]) hx hb dX0_withColumn_28 hl (by decide) rfl (fun ls hl => ?_)
    refine lv_iload hx hb dX0_withColumn_30 (lv_at hl 1 rfl) ?_
    refine lv_aload_n hx hb dX0_withColumn_32 rfl (lv_at hl 2 rfl) ?_
    refine va_get (D := D) (ci := 0) (v := .ref (q 1)) (C := RX0) (T := TX0) (N := 12) hx hb hts in_X0 hown hK hP 0 rfl rfl 0 (by decide) (hts _ q30) (fun _ h9 => h9) rfl dX0_withColumn_33 ?_
    refine lv_iconst (v := nI 0) hx hb dX0_withColumn_36 (by decide +kernel) ?_
    refine tw_bald hx hb hK hP 1 0 rfl rfl (by omega) (by decide) dX0_withColumn_37 ?_
    refine tw_icmp_gt (tgt := 52) hx hb (by omega) (by omega) dX0_withColumn_38 (by decide) (fun c_38 => ?_) (fun c_38 => ?_)
    · 
      refine lv_ldc (v := -100000) hx hb hown (hts _ q93) dX0_withColumn_52 ?_
      exact tw_iret hx hb hr hlocks hK hP hD hS (by rw [x_wcl_1]; exact (if_neg (by omega)).symm) dX0_withColumn_54
    · 
      refine lv_iload hx hb dX0_withColumn_41 (lv_at hl 0 rfl) ?_
      refine lv_aload_n hx hb dX0_withColumn_43 rfl (lv_at hl 2 rfl) ?_
      refine va_get (D := D) (ci := 0) (v := .ref (q 1)) (C := RX0) (T := TX0) (N := 12) hx hb hts in_X0 hown hK hP 0 rfl rfl 0 (by decide) (hts _ q30) (fun _ h9 => h9) rfl dX0_withColumn_44 ?_
      refine lv_iconst (v := nI 1) hx hb dX0_withColumn_47 (by decide +kernel) ?_
      refine tw_bald hx hb hK hP 1 0 rfl rfl (by omega) (by decide) dX0_withColumn_48 ?_
      refine tw_icmp_le (tgt := 55) hx hb (by omega) (by omega) dX0_withColumn_49 (by decide) (fun c_49 => ?_) (fun c_49 => ?_)
      · 
        refine lv_iload hx hb dX0_withColumn_55 (lv_at hl 6 rfl) ?_
        refine tw_if_ne (tgt := 69) hx hb (by omega) dX0_withColumn_57 (by decide) (fun c_57 => ?_) (fun c_57 => False.elim (by omega))
        refine lv_iconst (v := nI 0) hx hb dX0_withColumn_69 (by decide +kernel) ?_
        refine lv_istore (lv' := [(7, .int (nI 0)), (6, .int (nI j)), (5, .int (nI (i + 1))), (0, .ref (q 0)), (1, .int (nI i)), (2, .int (nI j)), (3, .int (nI last)), (4, .int (nI 1))]) hx hb dX0_withColumn_70 hl (by decide) rfl (fun ls hl => ?_)
        refine lv_iload hx hb dX0_withColumn_72 (lv_at hl 0 rfl) ?_
        refine lv_aload_n hx hb dX0_withColumn_74 rfl (lv_at hl 3 rfl) ?_
        refine lv_iload_n hx hb dX0_withColumn_75 rfl (lv_at hl 6 rfl) ?_
        refine lv_iload hx hb dX0_withColumn_76 (lv_at hl 7 rfl) ?_
        refine tw_calli (n := 2) (rest := [.int (nI 0)]) (wr := []) (w' := (xw q d cn lt ge gu op le fr fw bh fd cc cs)) (kX0_costOf l D q d cn lt ge gu op le fr fw bh fd cc cs last 1 (by omega) (by omega)) S (lw_V q110 q112 qs6 q20 q113) (by decide +kernel) ⟨Nat.le_of_ble_eq_true rfl, Nat.le_of_ble_eq_true rfl⟩ hK hP hD hS hA [0, 1, 2, 3, 4, 5, 6] [] [0, 1, 2, 3, 4, 5] rfl rfl (by decide) (by decide) (fun i h => absurd h List.not_mem_nil) rfl (ci := 0) rfl (q0 := 0) rfl rfl rfl hl.1 (Nat.le_of_ble_eq_true rfl) dX0_withColumn_78 ⟨Nat.zero_le _, Nat.zero_le _⟩ (fun H locs hP hD hS => ?_)
        have hP : va_P D vwCl (xw q d cn lt ge gu op le fr fw bh fd cc cs) H := hP
        have hD : va_D A (xw q d cn lt ge gu op le fr fw bh fd cc cs) := hD
        refine lv_isub hx hb dX0_withColumn_81 ?_
        refine lv_aload_n hx hb dX0_withColumn_82 rfl (lv_at hl 3 rfl) ?_
        refine va_get (D := D) (ci := 0) (v := .ref (q 5)) (C := RX0) (T := TX0) (N := 12) hx hb hts in_X0 hown hK hP 0 rfl rfl 8 (by decide) (hts _ q38) (fun _ h9 => h9) rfl dX0_withColumn_83 ?_
        refine lv_bipush (v := nI 121) hx hb dX0_withColumn_86 (by decide +kernel) ?_
        refine lv_iload hx hb dX0_withColumn_88 (lv_at hl 7 rfl) ?_
        refine tw_imul hx hb dX0_withColumn_90 ?_
        refine lv_bipush (v := nI 11) hx hb dX0_withColumn_91 (by decide +kernel) ?_
        refine lv_iload hx hb dX0_withColumn_93 (lv_at hl 2 rfl) ?_
        refine tw_imul hx hb dX0_withColumn_95 ?_
        refine tw_iadd hx hb dX0_withColumn_96 ?_
        refine lv_iload hx hb dX0_withColumn_97 (lv_at hl 1 rfl) ?_
        refine tw_iadd hx hb dX0_withColumn_99 ?_
        refine tw_iald hx hb hK hP 5 4 rfl rfl (by omega) (by decide) dX0_withColumn_100 ?_
        refine lv_iadd hx hb dX0_withColumn_101 ?_
        exact tw_iret hx hb hr hlocks hK hP hD hS (by rw [x_wcl_1]; exact (if_pos ⟨by omega, by omega⟩).symm) dX0_withColumn_102
      · 
        refine lv_ldc (v := -100000) hx hb hown (hts _ q93) dX0_withColumn_52 ?_
        exact tw_iret hx hb hr hlocks hK hP hD hS (by rw [x_wcl_1]; exact (if_neg (by omega)).symm) dX0_withColumn_54
  · 
    subst h9
    refine lv_iload hx hb dX0_withColumn_0 (lv_at hl 4 rfl) ?_
    refine lv_iconst (v := nI 2) hx hb dX0_withColumn_2 (by decide +kernel) ?_
    refine tw_icmp_ne (tgt := 10) hx hb (by omega) (by omega) dX0_withColumn_3 (by decide) (fun c_3 => False.elim (by omega)) (fun c_3 => ?_)
    refine lv_iload_n hx hb dX0_withColumn_6 rfl (lv_at hl 1 rfl) ?_
    refine lv_goto (tgt := 13) hx hb dX0_withColumn_7 (by decide) ?_
    refine lv_istore (lv' := [(5, .int (nI i)), (0, .ref (q 0)), (1, .int (nI i)), (2, .int (nI j)), (3, .int (nI last)), (4, .int (nI 2))]) hx hb dX0_withColumn_13 hl (by decide) rfl (fun ls hl => ?_)
    refine lv_iload hx hb dX0_withColumn_15 (lv_at hl 5 rfl) ?_
    refine lv_iconst (v := nI 1) hx hb dX0_withColumn_17 (by decide +kernel) ?_
    refine tw_icmp_ne (tgt := 25) hx hb (by omega) (by omega) dX0_withColumn_18 (by decide) (fun c_18 => ?_) (fun c_18 => False.elim (by omega))
    refine lv_iload_n hx hb dX0_withColumn_25 rfl (lv_at hl 3 rfl) ?_
    refine lv_iconst (v := nI 1) hx hb dX0_withColumn_26 (by decide +kernel) ?_
    refine tw_iadd hx hb dX0_withColumn_27 ?_
    refine lv_istore (lv' := [(6, .int (nI (j + 1))), (5, .int (nI i)), (0, .ref (q 0)), (1, .int (nI i)), (2, .int (nI j)), (3, .int (nI last)), (4, .int (nI 2))]) hx hb dX0_withColumn_28 hl (by decide) rfl (fun ls hl => ?_)
    refine lv_iload hx hb dX0_withColumn_30 (lv_at hl 1 rfl) ?_
    refine lv_aload_n hx hb dX0_withColumn_32 rfl (lv_at hl 2 rfl) ?_
    refine va_get (D := D) (ci := 0) (v := .ref (q 1)) (C := RX0) (T := TX0) (N := 12) hx hb hts in_X0 hown hK hP 0 rfl rfl 0 (by decide) (hts _ q30) (fun _ h9 => h9) rfl dX0_withColumn_33 ?_
    refine lv_iconst (v := nI 0) hx hb dX0_withColumn_36 (by decide +kernel) ?_
    refine tw_bald hx hb hK hP 1 0 rfl rfl (by omega) (by decide) dX0_withColumn_37 ?_
    refine tw_icmp_gt (tgt := 52) hx hb (by omega) (by omega) dX0_withColumn_38 (by decide) (fun c_38 => ?_) (fun c_38 => ?_)
    · 
      refine lv_ldc (v := -100000) hx hb hown (hts _ q93) dX0_withColumn_52 ?_
      exact tw_iret hx hb hr hlocks hK hP hD hS (by rw [x_wcl_2]; exact (if_neg (by omega)).symm) dX0_withColumn_54
    · 
      refine lv_iload hx hb dX0_withColumn_41 (lv_at hl 0 rfl) ?_
      refine lv_aload_n hx hb dX0_withColumn_43 rfl (lv_at hl 2 rfl) ?_
      refine va_get (D := D) (ci := 0) (v := .ref (q 1)) (C := RX0) (T := TX0) (N := 12) hx hb hts in_X0 hown hK hP 0 rfl rfl 0 (by decide) (hts _ q30) (fun _ h9 => h9) rfl dX0_withColumn_44 ?_
      refine lv_iconst (v := nI 1) hx hb dX0_withColumn_47 (by decide +kernel) ?_
      refine tw_bald hx hb hK hP 1 0 rfl rfl (by omega) (by decide) dX0_withColumn_48 ?_
      refine tw_icmp_le (tgt := 55) hx hb (by omega) (by omega) dX0_withColumn_49 (by decide) (fun c_49 => ?_) (fun c_49 => ?_)
      · 
        refine lv_iload hx hb dX0_withColumn_55 (lv_at hl 6 rfl) ?_
        refine tw_if_ne (tgt := 69) hx hb (by omega) dX0_withColumn_57 (by decide) (fun c_57 => ?_) (fun c_57 => False.elim (by omega))
        refine lv_iconst (v := nI 0) hx hb dX0_withColumn_69 (by decide +kernel) ?_
        refine lv_istore (lv' := [(7, .int (nI 0)), (6, .int (nI (j + 1))), (5, .int (nI i)), (0, .ref (q 0)), (1, .int (nI i)), (2, .int (nI j)), (3, .int (nI last)), (4, .int (nI 2))]) hx hb dX0_withColumn_70 hl (by decide) rfl (fun ls hl => ?_)
        refine lv_iload hx hb dX0_withColumn_72 (lv_at hl 0 rfl) ?_
        refine lv_aload_n hx hb dX0_withColumn_74 rfl (lv_at hl 3 rfl) ?_
        refine lv_iload_n hx hb dX0_withColumn_75 rfl (lv_at hl 6 rfl) ?_
        refine lv_iload hx hb dX0_withColumn_76 (lv_at hl 7 rfl) ?_
        refine tw_calli (n := 2) (rest := [.int (nI 0)]) (wr := []) (w' := (xw q d cn lt ge gu op le fr fw bh fd cc cs)) (kX0_costOf l D q d cn lt ge gu op le fr fw bh fd cc cs last 2 (by omega) (by omega)) S (lw_V q110 q112 qs6 q20 q113) (by decide +kernel) ⟨Nat.le_of_ble_eq_true rfl, Nat.le_of_ble_eq_true rfl⟩ hK hP hD hS hA [0, 1, 2, 3, 4, 5, 6] [] [0, 1, 2, 3, 4, 5] rfl rfl (by decide) (by decide) (fun i h => absurd h List.not_mem_nil) rfl (ci := 0) rfl (q0 := 0) rfl rfl rfl hl.1 (Nat.le_of_ble_eq_true rfl) dX0_withColumn_78 ⟨Nat.zero_le _, Nat.zero_le _⟩ (fun H locs hP hD hS => ?_)
        have hP : va_P D vwCl (xw q d cn lt ge gu op le fr fw bh fd cc cs) H := hP
        have hD : va_D A (xw q d cn lt ge gu op le fr fw bh fd cc cs) := hD
        refine lv_isub hx hb dX0_withColumn_81 ?_
        refine lv_aload_n hx hb dX0_withColumn_82 rfl (lv_at hl 3 rfl) ?_
        refine va_get (D := D) (ci := 0) (v := .ref (q 5)) (C := RX0) (T := TX0) (N := 12) hx hb hts in_X0 hown hK hP 0 rfl rfl 8 (by decide) (hts _ q38) (fun _ h9 => h9) rfl dX0_withColumn_83 ?_
        refine lv_bipush (v := nI 121) hx hb dX0_withColumn_86 (by decide +kernel) ?_
        refine lv_iload hx hb dX0_withColumn_88 (lv_at hl 7 rfl) ?_
        refine tw_imul hx hb dX0_withColumn_90 ?_
        refine lv_bipush (v := nI 11) hx hb dX0_withColumn_91 (by decide +kernel) ?_
        refine lv_iload hx hb dX0_withColumn_93 (lv_at hl 2 rfl) ?_
        refine tw_imul hx hb dX0_withColumn_95 ?_
        refine tw_iadd hx hb dX0_withColumn_96 ?_
        refine lv_iload hx hb dX0_withColumn_97 (lv_at hl 1 rfl) ?_
        refine tw_iadd hx hb dX0_withColumn_99 ?_
        refine tw_iald hx hb hK hP 5 4 rfl rfl (by omega) (by decide) dX0_withColumn_100 ?_
        refine lv_iadd hx hb dX0_withColumn_101 ?_
        exact tw_iret hx hb hr hlocks hK hP hD hS (by rw [x_wcl_2]; exact (if_pos ⟨by omega, by omega⟩).symm) dX0_withColumn_102
      · 
        refine lv_ldc (v := -100000) hx hb hown (hts _ q93) dX0_withColumn_52 ?_
        exact tw_iret hx hb hr hlocks hK hP hD hS (by rw [x_wcl_2]; exact (if_neg (by omega)).symm) dX0_withColumn_54
set_option maxHeartbeats 4000000 in
set_option maxRecDepth 100000 in
theorem kX0_restAfter (i : Nat) (j : Nat) (last : Nat) (h1 : i ≤ cn 0) (h2 : j ≤ cn 1) (h3 : cn 0 ≤ 10) (h4 : cn 1 ≤ 10) (h5 : last < 3) : Ci l yX0_restAfter cX0_restAfter 7 .int 2 49 D vwCl (xt d) [.ref (q 0), .int (nI i), .int (nI j), .int (nI last)] (xw q d cn lt ge gu op le fr fw bh fd cc cs) (x_rst lt ge gu op le (cn 0) (cn 1) bh i j last) (xw q d cn lt ge gu op le fr fw bh fd cc cs) := by
  refine Ci.of (by decide +kernel) (Nat.le_of_ble_eq_true rfl) ?_
  intro p e s m below meth c A ls hx hb hr hlocks hml hown hts hK hP hD hS hA hl
  have hown : s.vm.findClass RX0 = some m.cls := hown
  have S : CallFix p m c cX0_restAfter 7 s ([.ref (q 0), .int (nI i), .int (nI j), .int (nI last)] : List Value).toArray lw_all RX0 := ⟨hx, hb, hml, hown, hts⟩
  have hl : lv_has ls 7 [(0, .ref (q 0)), (1, .int (nI i)), (2, .int (nI j)), (3, .int (nI last))] := hl
  have loop : ¬ (i = cn 0 ∧ j = cn 1) → ∀ (n k : Nat), k ≤ 3 → 4 ≤ k + n → ∀ (H : Heap) (locs : List Loc) (ls : Array Slot), va_P D vwCl (xw q d cn lt ge gu op le fr fw bh fd cc cs) H → va_D A (xw q d cn lt ge gu op le fr fw bh fd cc cs) → va_S A s.heap H locs → lv_has ls 7 [(5, .int (nI k)), (4, .int (al_mx (x_wcl lt ge gu op le (cn 0) (cn 1) bh i j last) (-100000) k)), (0, .ref (q 0)), (1, .int (nI i)), (2, .int (nI j)), (3, .int (nI last))] → W p l e (tw_rm 2 49) s m ([.ref (q 0), .int (nI i), .int (nI j), .int (nI last)] : List Value).toArray below meth c H locs 0 0 (MQ below (tw_Qi D vwCl (xt d) (x_rst lt ge gu op le (cn 0) (cn 1) bh i j last) (xw q d cn lt ge gu op le fr fw bh fd cc cs) A) ([.ref (q 0), .int (nI i), .int (nI j), .int (nI last)] : List Value).toArray s 0 0 A) (F0 m 29 ls []) := by
    intro hne n
    induction n with
    | zero => intro k hk hn; exact absurd hn (by omega)
    | succ n ih =>
      intro k hk hn H locs ls hP hD hS hl
      refine lv_iload hx hb dX0_restAfter_29 (lv_at hl 0 rfl) ?_
      refine lv_iconst (v := nI 3) hx hb dX0_restAfter_31 (by decide +kernel) ?_
      refine tw_icmp_ge (tgt := 63) hx hb (by omega) (by omega) dX0_restAfter_32 (by decide) (fun c_32 => ?_) (fun c_32 => ?_)
      · 
        have hk3 : k = 3 := by omega
        subst hk3
        refine lv_iload hx hb dX0_restAfter_63 (lv_at hl 1 rfl) ?_
        exact tw_iret hx hb hr hlocks hK hP hD hS ((if_neg hne).symm) dX0_restAfter_65
      · 
        refine lv_aload_n hx hb dX0_restAfter_35 rfl (lv_at hl 2 rfl) ?_
        refine lv_iload_n hx hb dX0_restAfter_36 rfl (lv_at hl 3 rfl) ?_
        refine lv_iload_n hx hb dX0_restAfter_37 rfl (lv_at hl 4 rfl) ?_
        refine lv_iload_n hx hb dX0_restAfter_38 rfl (lv_at hl 5 rfl) ?_
        refine lv_iload hx hb dX0_restAfter_39 (lv_at hl 0 rfl) ?_
        refine tw_calli (n := 4) (rest := []) (wr := []) (w' := (xw q d cn lt ge gu op le fr fw bh fd cc cs)) (kX0_withColumn l D q d cn lt ge gu op le fr fw bh fd cc cs i j last k (by omega) (by omega) (by omega) (by omega) (by omega) (by omega)) S (lw_V q139 q141 qs11 q20 q142) (by decide +kernel) ⟨Nat.le_of_ble_eq_true rfl, Nat.le_of_ble_eq_true rfl⟩ hK hP hD hS hA [0, 1, 2, 3, 4, 5, 6] [] [0, 1, 2, 3, 4, 5] rfl rfl (by decide) (by decide) (fun i h => absurd h List.not_mem_nil) rfl (ci := 0) rfl (q0 := 0) rfl rfl rfl hl.1 (Nat.le_of_ble_eq_true rfl) dX0_restAfter_41 ⟨Nat.zero_le _, Nat.zero_le _⟩ (fun H locs hP hD hS => ?_)
        have hP : va_P D vwCl (xw q d cn lt ge gu op le fr fw bh fd cc cs) H := hP
        have hD : va_D A (xw q d cn lt ge gu op le fr fw bh fd cc cs) := hD
        refine lv_istore (lv' := [(6, .int (x_wcl lt ge gu op le (cn 0) (cn 1) bh i j last k)), (5, .int (nI k)), (4, .int (al_mx (x_wcl lt ge gu op le (cn 0) (cn 1) bh i j last) (-100000) k)), (0, .ref (q 0)), (1, .int (nI i)), (2, .int (nI j)), (3, .int (nI last))]) hx hb dX0_restAfter_44 hl (by decide) rfl (fun ls hl => ?_)
        refine lv_iload hx hb dX0_restAfter_46 (lv_at hl 0 rfl) ?_
        refine lv_iload hx hb dX0_restAfter_48 (lv_at hl 2 rfl) ?_
        refine lv_icmp_le (tgt := 57) hx hb dX0_restAfter_50 (by decide) (fun c_50 => ?_) (fun c_50 => ?_)
        · 
          refine tw_iinc (lv' := [(5, .int (nI (k + 1))), (6, .int (x_wcl lt ge gu op le (cn 0) (cn 1) bh i j last k)), (4, .int (al_mx (x_wcl lt ge gu op le (cn 0) (cn 1) bh i j last) (-100000) k)), (0, .ref (q 0)), (1, .int (nI i)), (2, .int (nI j)), (3, .int (nI last))]) hx hb dX0_restAfter_57 hl (k := 1) rfl (by decide) rfl (fun ls hl => ?_)
          refine lv_goto (tgt := 29) hx hb dX0_restAfter_60 (by decide) ?_
          have hh : al_mx (x_wcl lt ge gu op le (cn 0) (cn 1) bh i j last) (-100000) (k + 1) = al_mx (x_wcl lt ge gu op le (cn 0) (cn 1) bh i j last) (-100000) k := if_pos c_50
          exact ih (k + 1) (by omega) (by omega) _ _ _ hP hD hS (by rw [hh]; exact (lv_sub hl [0, 2, 3, 4, 5, 6] rfl))
        · 
          refine lv_iload hx hb dX0_restAfter_53 (lv_at hl 0 rfl) ?_
          refine lv_istore (lv' := [(4, .int (x_wcl lt ge gu op le (cn 0) (cn 1) bh i j last k)), (6, .int (x_wcl lt ge gu op le (cn 0) (cn 1) bh i j last k)), (5, .int (nI k)), (0, .ref (q 0)), (1, .int (nI i)), (2, .int (nI j)), (3, .int (nI last))]) hx hb dX0_restAfter_55 hl (by decide) rfl (fun ls hl => ?_)
          refine tw_iinc (lv' := [(5, .int (nI (k + 1))), (4, .int (x_wcl lt ge gu op le (cn 0) (cn 1) bh i j last k)), (6, .int (x_wcl lt ge gu op le (cn 0) (cn 1) bh i j last k)), (0, .ref (q 0)), (1, .int (nI i)), (2, .int (nI j)), (3, .int (nI last))]) hx hb dX0_restAfter_57 hl (k := 2) rfl (by decide) rfl (fun ls hl => ?_)
          refine lv_goto (tgt := 29) hx hb dX0_restAfter_60 (by decide) ?_
          have hh : al_mx (x_wcl lt ge gu op le (cn 0) (cn 1) bh i j last) (-100000) (k + 1) = x_wcl lt ge gu op le (cn 0) (cn 1) bh i j last k := if_neg c_50
          exact ih (k + 1) (by omega) (by omega) _ _ _ hP hD hS (by rw [hh]; exact (lv_sub hl [0, 1, 3, 4, 5, 6] rfl))
  refine lv_iload_n hx hb dX0_restAfter_0 rfl (lv_at hl 1 rfl) ?_
  refine lv_aload_n hx hb dX0_restAfter_1 rfl (lv_at hl 0 rfl) ?_
  refine va_get (D := D) (ci := 0) (v := .ref (q 1)) (C := RX0) (T := TX0) (N := 12) hx hb hts in_X0 hown hK hP 0 rfl rfl 0 (by decide) (hts _ q30) (fun _ h9 => h9) rfl dX0_restAfter_2 ?_
  refine lv_iconst (v := nI 0) hx hb dX0_restAfter_5 (by decide +kernel) ?_
  refine tw_bald hx hb hK hP 1 0 rfl rfl (by omega) (by decide) dX0_restAfter_6 ?_
  refine tw_icmp_ne (tgt := 22) hx hb (by omega) (by omega) dX0_restAfter_7 (by decide) (fun c_7 => ?_) (fun c_7 => ?_)
  · 
    refine lv_ldc (v := -100000) hx hb hown (hts _ q93) dX0_restAfter_22 ?_
    refine lv_istore (lv' := [(4, .int (-100000)), (0, .ref (q 0)), (1, .int (nI i)), (2, .int (nI j)), (3, .int (nI last))]) hx hb dX0_restAfter_24 hl (by decide) rfl (fun ls hl => ?_)
    refine lv_iconst (v := nI 0) hx hb dX0_restAfter_26 (by decide +kernel) ?_
    refine lv_istore (lv' := [(5, .int (nI 0)), (4, .int (-100000)), (0, .ref (q 0)), (1, .int (nI i)), (2, .int (nI j)), (3, .int (nI last))]) hx hb dX0_restAfter_27 hl (by decide) rfl (fun ls hl => ?_)
    exact loop (by omega) 4 0 (by omega) (by omega) _ _ _ hP hD hS (lv_sub hl [0, 1, 2, 3, 4, 5] rfl)
  · 
    refine lv_iload_n hx hb dX0_restAfter_10 rfl (lv_at hl 2 rfl) ?_
    refine lv_aload_n hx hb dX0_restAfter_11 rfl (lv_at hl 0 rfl) ?_
    refine va_get (D := D) (ci := 0) (v := .ref (q 1)) (C := RX0) (T := TX0) (N := 12) hx hb hts in_X0 hown hK hP 0 rfl rfl 0 (by decide) (hts _ q30) (fun _ h9 => h9) rfl dX0_restAfter_12 ?_
    refine lv_iconst (v := nI 1) hx hb dX0_restAfter_15 (by decide +kernel) ?_
    refine tw_bald hx hb hK hP 1 0 rfl rfl (by omega) (by decide) dX0_restAfter_16 ?_
    refine tw_icmp_ne (tgt := 22) hx hb (by omega) (by omega) dX0_restAfter_17 (by decide) (fun c_17 => ?_) (fun c_17 => ?_)
    · 
      refine lv_ldc (v := -100000) hx hb hown (hts _ q93) dX0_restAfter_22 ?_
      refine lv_istore (lv' := [(4, .int (-100000)), (0, .ref (q 0)), (1, .int (nI i)), (2, .int (nI j)), (3, .int (nI last))]) hx hb dX0_restAfter_24 hl (by decide) rfl (fun ls hl => ?_)
      refine lv_iconst (v := nI 0) hx hb dX0_restAfter_26 (by decide +kernel) ?_
      refine lv_istore (lv' := [(5, .int (nI 0)), (4, .int (-100000)), (0, .ref (q 0)), (1, .int (nI i)), (2, .int (nI j)), (3, .int (nI last))]) hx hb dX0_restAfter_27 hl (by decide) rfl (fun ls hl => ?_)
      exact loop (by omega) 4 0 (by omega) (by omega) _ _ _ hP hD hS (lv_sub hl [0, 1, 2, 3, 4, 5] rfl)
    · 
      refine lv_iconst (v := nI 0) hx hb dX0_restAfter_20 (by decide +kernel) ?_
      exact tw_iret hx hb hr hlocks hK hP hD hS ((if_pos ⟨c_7, c_17⟩).symm) dX0_restAfter_21
set_option maxHeartbeats 4000000 in
set_option maxRecDepth 100000 in
theorem kX0_fillBehind  (h1 : cn 0 ≤ 10) (h2 : cn 1 ≤ 10) : Cv l yX0_fillBehind cX0_fillBehind 4 3 75 D vwCl (xt d) [.ref (q 0)] (xw q d cn lt ge gu op le fr fw bh fd cc cs) (xw q d cn lt ge gu op le fr fw (x_bhl lt ge gu op le (cn 0) (cn 1) (cn 0 + 1) bh) fd cc cs) := by
  refine Cv.of (by decide +kernel) (Nat.le_of_ble_eq_true rfl) ?_
  intro p e s m below meth c A ls hx hb hr hlocks hml hown hts hK hP hD hS hA hl
  have hown : s.vm.findClass RX0 = some m.cls := hown
  have S : CallFix p m c cX0_fillBehind 4 s ([.ref (q 0)] : List Value).toArray lw_all RX0 := ⟨hx, hb, hml, hown, hts⟩
  have hl : lv_has ls 4 [(0, .ref (q 0))] := hl
  have loop : ∀ (k : Nat), k ≤ cn 0 + 1 → ∀ (b : Nat → Int32), x_bhl lt ge gu op le (cn 0) (cn 1) k b = x_bhl lt ge gu op le (cn 0) (cn 1) (cn 0 + 1) bh → ∀ (H : Heap) (locs : List Loc) (ls : Array Slot), va_P D vwCl (xw q d cn lt ge gu op le fr fw b fd cc cs) H → va_D A (xw q d cn lt ge gu op le fr fw b fd cc cs) → va_S A s.heap H locs → lv_has ls 4 [(1, .int (nI k - 1)), (0, .ref (q 0))] → W p l e (tw_rm 3 75) s m ([.ref (q 0)] : List Value).toArray below meth c H locs 0 0 (MQ below (tw_Qv D vwCl (xt d) (xw q d cn lt ge gu op le fr fw (x_bhl lt ge gu op le (cn 0) (cn 1) (cn 0 + 1) bh) fd cc cs) A) ([.ref (q 0)] : List Value).toArray s 0 0 A) (F0 m 7 ls []) := by
    intro k
    induction k with
    | zero =>
      intro hk b hb0 H locs ls hP hD hS hl
      refine lv_iload_n hx hb dX0_fillBehind_7 rfl (lv_at hl 0 rfl) ?_
      refine lv_if_lt (tgt := 70) hx hb dX0_fillBehind_8 (by decide) (fun c_8 => ?_) (fun c_8 => False.elim (c_8 (by decide +kernel)))
      have hE : (xw q d cn lt ge gu op le fr fw b fd cc cs) = (xw q d cn lt ge gu op le fr fw (x_bhl lt ge gu op le (cn 0) (cn 1) (cn 0 + 1) bh) fd cc cs) := by first | (rw [← hb0]; done) | (rw [← hb0]; rfl)
      rw [hE] at hP hD
      clear hE
      exact tw_vret hx hb hr hlocks hK hP hD hS dX0_fillBehind_70
    | succ i ih =>
      intro hk b hb0 H locs ls hP hD hS hl
      rw [nI_pred] at hl
      refine lv_iload_n hx hb dX0_fillBehind_7 rfl (lv_at hl 0 rfl) ?_
      refine tw_if_lt (tgt := 70) hx hb (by omega) dX0_fillBehind_8 (by decide) ?_
      refine lv_aload_n hx hb dX0_fillBehind_11 rfl (lv_at hl 1 rfl) ?_
      refine va_get (D := D) (ci := 0) (v := .ref (q 1)) (C := RX0) (T := TX0) (N := 12) hx hb hts in_X0 hown hK hP 0 rfl rfl 0 (by decide) (hts _ q30) (fun _ h9 => h9) rfl dX0_fillBehind_12 ?_
      refine lv_iconst (v := nI 1) hx hb dX0_fillBehind_15 (by decide +kernel) ?_
      refine tw_bald hx hb hK hP 1 0 rfl rfl (by omega) (by decide) dX0_fillBehind_16 ?_
      refine lv_istore_n (lv' := [(2, .int (nI (cn 1))), (1, .int (nI i)), (0, .ref (q 0))]) hx hb dX0_fillBehind_17 rfl hl (by decide) rfl (fun ls hl => ?_)
      have inner : ∀ (k2 : Nat), k2 ≤ cn 1 + 1 → ∀ (b2 : Nat → Int32), x_bhr lt ge gu op le (cn 0) (cn 1) i k2 b2 = x_bhr lt ge gu op le (cn 0) (cn 1) i (cn 1 + 1) b → ∀ (H : Heap) (locs : List Loc) (ls : Array Slot), va_P D vwCl (xw q d cn lt ge gu op le fr fw b2 fd cc cs) H → va_D A (xw q d cn lt ge gu op le fr fw b2 fd cc cs) → va_S A s.heap H locs → lv_has ls 4 [(2, .int (nI k2 - 1)), (1, .int (nI i)), (0, .ref (q 0))] → W p l e (tw_rm 3 75) s m ([.ref (q 0)] : List Value).toArray below meth c H locs 0 0 (MQ below (tw_Qv D vwCl (xt d) (xw q d cn lt ge gu op le fr fw (x_bhl lt ge gu op le (cn 0) (cn 1) (cn 0 + 1) bh) fd cc cs) A) ([.ref (q 0)] : List Value).toArray s 0 0 A) (F0 m 18 ls []) := by
        intro k2
        induction k2 with
        | zero =>
          intro hk2 b2 hb2 H locs ls hP hD hS hl
          refine lv_iload_n hx hb dX0_fillBehind_18 rfl (lv_at hl 0 rfl) ?_
          refine lv_if_lt (tgt := 64) hx hb dX0_fillBehind_19 (by decide) (fun c_19 => ?_) (fun c_19 => False.elim (c_19 (by decide +kernel)))
          refine tw_idec (lv' := [(1, .int (nI i - 1)), (2, .int (nI 0 - 1)), (0, .ref (q 0))]) hx hb dX0_fillBehind_64 hl (k := 1) rfl (by decide) rfl (fun ls hl => ?_)
          refine lv_goto (tgt := 7) hx hb dX0_fillBehind_67 (by decide) ?_
          exact ih (by omega) b2 ((congrArg (x_bhl lt ge gu op le (cn 0) (cn 1) i) hb2).trans hb0) _ _ _ hP hD hS (lv_sub hl [0, 2] rfl)
        | succ j ih2 =>
          intro hk2 b2 hb2 H locs ls hP hD hS hl
          rw [nI_pred] at hl
          refine lv_iload_n hx hb dX0_fillBehind_18 rfl (lv_at hl 0 rfl) ?_
          refine tw_if_lt (tgt := 64) hx hb (by omega) dX0_fillBehind_19 (by decide) ?_
          refine lv_iconst (v := nI 0) hx hb dX0_fillBehind_22 (by decide +kernel) ?_
          refine lv_istore_n (lv' := [(3, .int (nI 0)), (2, .int (nI j)), (1, .int (nI i)), (0, .ref (q 0))]) hx hb dX0_fillBehind_23 rfl hl (by decide) rfl (fun ls hl => ?_)
          have inmost : ∀ (n k : Nat), k ≤ 3 → 4 ≤ k + n → ∀ (H : Heap) (locs : List Loc) (ls : Array Slot), va_P D vwCl (xw q d cn lt ge gu op le fr fw (x_bhc lt ge gu op le (cn 0) (cn 1) i j k b2) fd cc cs) H → va_D A (xw q d cn lt ge gu op le fr fw (x_bhc lt ge gu op le (cn 0) (cn 1) i j k b2) fd cc cs) → va_S A s.heap H locs → lv_has ls 4 [(3, .int (nI k)), (2, .int (nI j)), (1, .int (nI i)), (0, .ref (q 0))] → W p l e (tw_rm 3 75) s m ([.ref (q 0)] : List Value).toArray below meth c H locs 0 0 (MQ below (tw_Qv D vwCl (xt d) (xw q d cn lt ge gu op le fr fw (x_bhl lt ge gu op le (cn 0) (cn 1) (cn 0 + 1) bh) fd cc cs) A) ([.ref (q 0)] : List Value).toArray s 0 0 A) (F0 m 24 ls []) := by
            intro n
            induction n with
            | zero => intro k hk hn; exact absurd hn (by omega)
            | succ n ih3 =>
              intro k hk3 hn3 H locs ls hP hD hS hl
              refine lv_iload_n hx hb dX0_fillBehind_24 rfl (lv_at hl 0 rfl) ?_
              refine lv_iconst (v := nI 3) hx hb dX0_fillBehind_25 (by decide +kernel) ?_
              refine tw_icmp_ge (tgt := 58) hx hb (by omega) (by omega) dX0_fillBehind_26 (by decide) (fun c_26 => ?_) (fun c_26 => ?_)
              · 
                have hk4 : k = 3 := by omega
                subst hk4
                refine tw_idec (lv' := [(2, .int (nI j - 1)), (3, .int (nI 3)), (1, .int (nI i)), (0, .ref (q 0))]) hx hb dX0_fillBehind_58 hl (k := 1) rfl (by decide) rfl (fun ls hl => ?_)
                refine lv_goto (tgt := 18) hx hb dX0_fillBehind_61 (by decide) ?_
                exact ih2 (by omega) (x_bhc lt ge gu op le (cn 0) (cn 1) i j 3 b2) hb2 _ _ _ hP hD hS (lv_sub hl [0, 2, 3] rfl)
              · 
                refine lv_aload_n hx hb dX0_fillBehind_29 rfl (lv_at hl 3 rfl) ?_
                refine va_get (D := D) (ci := 0) (v := .ref (q 5)) (C := RX0) (T := TX0) (N := 12) hx hb hts in_X0 hown hK hP 0 rfl rfl 8 (by decide) (hts _ q38) (fun _ h9 => h9) rfl dX0_fillBehind_30 ?_
                refine lv_bipush (v := nI 121) hx hb dX0_fillBehind_33 (by decide +kernel) ?_
                refine lv_iload_n hx hb dX0_fillBehind_35 rfl (lv_at hl 0 rfl) ?_
                refine tw_imul hx hb dX0_fillBehind_36 ?_
                refine lv_bipush (v := nI 11) hx hb dX0_fillBehind_37 (by decide +kernel) ?_
                refine lv_iload_n hx hb dX0_fillBehind_39 rfl (lv_at hl 2 rfl) ?_
                refine tw_imul hx hb dX0_fillBehind_40 ?_
                refine tw_iadd hx hb dX0_fillBehind_41 ?_
                refine lv_iload_n hx hb dX0_fillBehind_42 rfl (lv_at hl 1 rfl) ?_
                refine tw_iadd hx hb dX0_fillBehind_43 ?_
                refine lv_aload_n hx hb dX0_fillBehind_44 rfl (lv_at hl 3 rfl) ?_
                refine lv_iload_n hx hb dX0_fillBehind_45 rfl (lv_at hl 2 rfl) ?_
                refine lv_iload_n hx hb dX0_fillBehind_46 rfl (lv_at hl 1 rfl) ?_
                refine lv_iload_n hx hb dX0_fillBehind_47 rfl (lv_at hl 0 rfl) ?_
                refine tw_calli (n := 3) (rest := [.int (nI (121 * k + 11 * i + j)), .ref (q 5)]) (wr := []) (w' := (xw q d cn lt ge gu op le fr fw (x_bhc lt ge gu op le (cn 0) (cn 1) i j k b2) fd cc cs)) (kX0_restAfter l D q d cn lt ge gu op le fr fw (x_bhc lt ge gu op le (cn 0) (cn 1) i j k b2) fd cc cs i j k (by omega) (by omega) (by omega) (by omega) (by omega)) S (lw_V q135 q137 qs10 q20 q138) (by decide +kernel) ⟨Nat.le_of_ble_eq_true rfl, Nat.le_of_ble_eq_true rfl⟩ hK hP hD hS hA [0, 1, 2, 3, 4, 5, 6] [] [0, 1, 2, 3, 4, 5] rfl rfl (by decide) (by decide) (fun i h => absurd h List.not_mem_nil) rfl (ci := 0) rfl (q0 := 0) rfl rfl rfl hl.1 (Nat.le_of_ble_eq_true rfl) dX0_fillBehind_48 ⟨Nat.zero_le _, Nat.zero_le _⟩ (fun H locs hP hD hS => ?_)
                have hP : va_P D vwCl (xw q d cn lt ge gu op le fr fw (x_bhc lt ge gu op le (cn 0) (cn 1) i j k b2) fd cc cs) H := hP
                have hD : va_D A (xw q d cn lt ge gu op le fr fw (x_bhc lt ge gu op le (cn 0) (cn 1) i j k b2) fd cc cs) := hD
                refine tw_iast hx hb hK hP hD hS 5 4 rfl rfl (by omega) (by decide) dX0_fillBehind_51 (fun H locs hP hD hS => ?_)
                have hP : va_P D vwCl (xw q d cn lt ge gu op le fr fw (upd (x_bhc lt ge gu op le (cn 0) (cn 1) i j k b2) (121 * k + 11 * i + j) (x_rst lt ge gu op le (cn 0) (cn 1) (x_bhc lt ge gu op le (cn 0) (cn 1) i j k b2) i j k)) fd cc cs) H := hP
                have hD : va_D A (xw q d cn lt ge gu op le fr fw (upd (x_bhc lt ge gu op le (cn 0) (cn 1) i j k b2) (121 * k + 11 * i + j) (x_rst lt ge gu op le (cn 0) (cn 1) (x_bhc lt ge gu op le (cn 0) (cn 1) i j k b2) i j k)) fd cc cs) := hD
                refine tw_iinc (lv' := [(3, .int (nI (k + 1))), (2, .int (nI j)), (1, .int (nI i)), (0, .ref (q 0))]) hx hb dX0_fillBehind_52 hl (k := 0) rfl (by decide) rfl (fun ls hl => ?_)
                refine lv_goto (tgt := 24) hx hb dX0_fillBehind_55 (by decide) ?_
                exact ih3 (k + 1) (by omega) (by omega) _ _ _ hP hD hS (lv_sub hl [0, 1, 2, 3] rfl)
          exact inmost 4 0 (by omega) (by omega) _ _ _ hP hD hS (lv_sub hl [0, 1, 2, 3] rfl)
      exact inner (cn 1 + 1) (by omega) b rfl _ _ _ hP hD hS (by rw [nI_pred]; exact (lv_sub hl [0, 1, 2] rfl))
  refine lv_aload_n hx hb dX0_fillBehind_0 rfl (lv_at hl 0 rfl) ?_
  refine va_get (D := D) (ci := 0) (v := .ref (q 1)) (C := RX0) (T := TX0) (N := 12) hx hb hts in_X0 hown hK hP 0 rfl rfl 0 (by decide) (hts _ q30) (fun _ h9 => h9) rfl dX0_fillBehind_1 ?_
  refine lv_iconst (v := nI 0) hx hb dX0_fillBehind_4 (by decide +kernel) ?_
  refine tw_bald hx hb hK hP 1 0 rfl rfl (by omega) (by decide) dX0_fillBehind_5 ?_
  refine lv_istore_n (lv' := [(1, .int (nI (cn 0))), (0, .ref (q 0))]) hx hb dX0_fillBehind_6 rfl hl (by decide) rfl (fun ls hl => ?_)
  exact loop (cn 0 + 1) (by omega) bh rfl _ _ _ hP hD hS (by rw [nI_pred]; exact (lv_sub hl [0, 1] rfl))
set_option maxHeartbeats 4000000 in
set_option maxRecDepth 100000 in
theorem kX0_findFirst  (h1 : cn 0 ≤ 10) (h2 : cn 1 ≤ 10) (h3 : ∀ i j last : Nat, i ≤ cn 0 → j ≤ cn 1 → last < 3 → ¬ (i = cn 0 ∧ j = cn 1) → (x_srt lt ge gu op le (cn 0) (cn 1) (x_bhl lt ge gu op le (cn 0) (cn 1) (cn 0 + 1) bh) i j last = 2 ∨ i + 1 ≤ cn 0) ∧ (x_srt lt ge gu op le (cn 0) (cn 1) (x_bhl lt ge gu op le (cn 0) (cn 1) (cn 0 + 1) bh) i j last = 1 ∨ j + 1 ≤ cn 1)) : Cv l yX0_findFirst cX0_findFirst 6 4 98 D vwCl (xt d) [.ref (q 0)] (xw q d cn lt ge gu op le fr fw bh fd cc cs) (xw q d cn lt ge gu op le fr fw (x_bhl lt ge gu op le (cn 0) (cn 1) (cn 0 + 1) bh) fd ((x_fnd (x_srt lt ge gu op le (cn 0) (cn 1) (x_bhl lt ge gu op le (cn 0) (cn 1) (cn 0 + 1) bh)) (cn 0) (cn 1) 21 0 0 0 0 cs).1) ((x_fnd (x_srt lt ge gu op le (cn 0) (cn 1) (x_bhl lt ge gu op le (cn 0) (cn 1) (cn 0 + 1) bh)) (cn 0) (cn 1) 21 0 0 0 0 cs).2)) := by
  refine Cv.of (by decide +kernel) (Nat.le_of_ble_eq_true rfl) ?_
  intro p e s m below meth c A ls hx hb hr hlocks hml hown hts hK hP hD hS hA hl
  have hown : s.vm.findClass RX0 = some m.cls := hown
  have S : CallFix p m c cX0_findFirst 6 s ([.ref (q 0)] : List Value).toArray lw_all RX0 := ⟨hx, hb, hml, hown, hts⟩
  have hl : lv_has ls 6 [(0, .ref (q 0))] := hl
  have loop : ∀ (f i j last c1 : Nat) (cs1 : Nat → Int32), i ≤ cn 0 → j ≤ cn 1 → last < 3 → (cn 0 - i) + (cn 1 - j) < f → c1 + (cn 0 - i) + (cn 1 - j) ≤ 20 → x_fnd (x_srt lt ge gu op le (cn 0) (cn 1) (x_bhl lt ge gu op le (cn 0) (cn 1) (cn 0 + 1) bh)) (cn 0) (cn 1) f i j last c1 cs1 = x_fnd (x_srt lt ge gu op le (cn 0) (cn 1) (x_bhl lt ge gu op le (cn 0) (cn 1) (cn 0 + 1) bh)) (cn 0) (cn 1) 21 0 0 0 0 cs → ∀ (H : Heap) (locs : List Loc) (ls : Array Slot), va_P D vwCl (xw q d cn lt ge gu op le fr fw (x_bhl lt ge gu op le (cn 0) (cn 1) (cn 0 + 1) bh) fd c1 cs1) H → va_D A (xw q d cn lt ge gu op le fr fw (x_bhl lt ge gu op le (cn 0) (cn 1) (cn 0 + 1) bh) fd c1 cs1) → va_S A s.heap H locs → lv_has ls 6 [(1, .int (nI i)), (2, .int (nI j)), (3, .int (nI last)), (0, .ref (q 0))] → W p l e (tw_rm 4 98) s m ([.ref (q 0)] : List Value).toArray below meth c H locs 0 0 (MQ below (tw_Qv D vwCl (xt d) (xw q d cn lt ge gu op le fr fw (x_bhl lt ge gu op le (cn 0) (cn 1) (cn 0 + 1) bh) fd ((x_fnd (x_srt lt ge gu op le (cn 0) (cn 1) (x_bhl lt ge gu op le (cn 0) (cn 1) (cn 0 + 1) bh)) (cn 0) (cn 1) 21 0 0 0 0 cs).1) ((x_fnd (x_srt lt ge gu op le (cn 0) (cn 1) (x_bhl lt ge gu op le (cn 0) (cn 1) (cn 0 + 1) bh)) (cn 0) (cn 1) 21 0 0 0 0 cs).2)) A) ([.ref (q 0)] : List Value).toArray s 0 0 A) (F0 m 15 ls []) := by
    intro f
    induction f with
    | zero => intro i j last c1 cs1 g1 g2 g3 g4; exact absurd g4 (by omega)
    | succ f ih =>
      intro i j last c1 cs1 g1 g2 g3 g4 g5 g6
      have j82 : (i < cn 0 ∨ j < cn 1) → ∀ (sg : Nat), sg = x_srt lt ge gu op le (cn 0) (cn 1) (x_bhl lt ge gu op le (cn 0) (cn 1) (cn 0 + 1) bh) i j last → ∀ (H : Heap) (locs : List Loc) (ls : Array Slot), va_P D vwCl (xw q d cn lt ge gu op le fr fw (x_bhl lt ge gu op le (cn 0) (cn 1) (cn 0 + 1) bh) fd c1 cs1) H → va_D A (xw q d cn lt ge gu op le fr fw (x_bhl lt ge gu op le (cn 0) (cn 1) (cn 0 + 1) bh) fd c1 cs1) → va_S A s.heap H locs → lv_has ls 6 [(5, .int (nI sg)), (1, .int (nI i)), (2, .int (nI j)), (3, .int (nI last)), (0, .ref (q 0))] → W p l e (tw_rm 4 98) s m ([.ref (q 0)] : List Value).toArray below meth c H locs 0 0 (MQ below (tw_Qv D vwCl (xt d) (xw q d cn lt ge gu op le fr fw (x_bhl lt ge gu op le (cn 0) (cn 1) (cn 0 + 1) bh) fd ((x_fnd (x_srt lt ge gu op le (cn 0) (cn 1) (x_bhl lt ge gu op le (cn 0) (cn 1) (cn 0 + 1) bh)) (cn 0) (cn 1) 21 0 0 0 0 cs).1) ((x_fnd (x_srt lt ge gu op le (cn 0) (cn 1) (x_bhl lt ge gu op le (cn 0) (cn 1) (cn 0 + 1) bh)) (cn 0) (cn 1) 21 0 0 0 0 cs).2)) A) ([.ref (q 0)] : List Value).toArray s 0 0 A) (F0 m 82 ls []) := by
        intro hne sg hsg H locs ls hP hD hS hl
        have hs3 : sg < 3 := by rw [hsg]; exact x_srt_lt _ _ _ _ _ _ _ _ _ _ _
        have hbox := h3 i j last g1 g2 g3 (by omega)
        rw [← hsg] at hbox
        have hstep : x_fnd (x_srt lt ge gu op le (cn 0) (cn 1) (x_bhl lt ge gu op le (cn 0) (cn 1) (cn 0 + 1) bh)) (cn 0) (cn 1) (f + 1) i j last c1 cs1 = x_fnd (x_srt lt ge gu op le (cn 0) (cn 1) (x_bhl lt ge gu op le (cn 0) (cn 1) (cn 0 + 1) bh)) (cn 0) (cn 1) f (if x_srt lt ge gu op le (cn 0) (cn 1) (x_bhl lt ge gu op le (cn 0) (cn 1) (cn 0 + 1) bh) i j last = 2 then i else i + 1) (if x_srt lt ge gu op le (cn 0) (cn 1) (x_bhl lt ge gu op le (cn 0) (cn 1) (cn 0 + 1) bh) i j last = 1 then j else j + 1) (x_srt lt ge gu op le (cn 0) (cn 1) (x_bhl lt ge gu op le (cn 0) (cn 1) (cn 0 + 1) bh) i j last) (c1 + 1) (upd cs1 c1 (nI (x_srt lt ge gu op le (cn 0) (cn 1) (x_bhl lt ge gu op le (cn 0) (cn 1) (cn 0 + 1) bh) i j last))) := if_pos hne
        rw [← hsg] at hstep
        refine lv_aload_n hx hb dX0_findFirst_82 rfl (lv_at hl 4 rfl) ?_
        refine va_get (D := D) (ci := 0) (v := .ref (q 6)) (C := RX0) (T := TX0) (N := 12) hx hb hts in_X0 hown hK hP 0 rfl rfl 11 (by decide) (hts _ q41) (fun _ h9 => h9) rfl dX0_findFirst_83 ?_
        refine lv_aload_n hx hb dX0_findFirst_86 rfl (lv_at hl 4 rfl) ?_
        refine va_get (D := D) (ci := 0) (v := .int (nI c1)) (C := RX0) (T := TX0) (N := 12) hx hb hts in_X0 hown hK hP 0 rfl rfl 10 (by decide) (hts _ q40) (fun _ h9 => h9) rfl dX0_findFirst_87 ?_
        refine lv_iload hx hb dX0_findFirst_90 (lv_at hl 0 rfl) ?_
        refine lv_i2b (v := nI sg) hx hb dX0_findFirst_92 (tw_byte2 (by omega)) ?_
        refine tw_bast hx hb hK hP hD hS 6 5 rfl rfl (by omega) (by decide) (tw_byte (by omega)) dX0_findFirst_93 (fun H locs hP hD hS => ?_)
        have hP : va_P D vwCl (xw q d cn lt ge gu op le fr fw (x_bhl lt ge gu op le (cn 0) (cn 1) (cn 0 + 1) bh) fd c1 (upd cs1 c1 (nI sg))) H := hP
        have hD : va_D A (xw q d cn lt ge gu op le fr fw (x_bhl lt ge gu op le (cn 0) (cn 1) (cn 0 + 1) bh) fd c1 (upd cs1 c1 (nI sg))) := hD
        refine lv_aload_n hx hb dX0_findFirst_94 rfl (lv_at hl 4 rfl) ?_
        refine lv_dup hx hb dX0_findFirst_95 rfl ?_
        refine va_get (D := D) (ci := 0) (v := .int (nI c1)) (C := RX0) (T := TX0) (N := 12) hx hb hts in_X0 hown hK hP 0 rfl rfl 10 (by decide) (hts _ q40) (fun _ h9 => h9) rfl dX0_findFirst_96 ?_
        refine lv_iconst (v := nI 1) hx hb dX0_findFirst_99 (by decide +kernel) ?_
        refine tw_iadd hx hb dX0_findFirst_100 ?_
        refine va_put (D := D) (ci := 0) (v := .int (nI (c1 + 1))) (ty := .int) (C := RX0) (T := TX0) (N := 12) hx hb hts in_X0 tyX0 tyX0_ok nmX0 hown hK hP hD hS 0 rfl rfl 10 (by decide) (hts _ q40) (fun _ h9 => h9) rfl (by decide +kernel) rfl rfl (Nat.le_of_ble_eq_true rfl) dX0_findFirst_101 (fun H locs hP hD hS => ?_)
        have hP : va_P D vwCl (xw q d cn lt ge gu op le fr fw (x_bhl lt ge gu op le (cn 0) (cn 1) (cn 0 + 1) bh) fd (c1 + 1) (upd cs1 c1 (nI sg))) H := hP
        have hD : va_D A (xw q d cn lt ge gu op le fr fw (x_bhl lt ge gu op le (cn 0) (cn 1) (cn 0 + 1) bh) fd (c1 + 1) (upd cs1 c1 (nI sg))) := hD
        refine lv_iload hx hb dX0_findFirst_104 (lv_at hl 0 rfl) ?_
        refine lv_iconst (v := nI 2) hx hb dX0_findFirst_106 (by decide +kernel) ?_
        refine tw_icmp_eq (tgt := 113) hx hb (by omega) (by omega) dX0_findFirst_107 (by decide) (fun c_107 => ?_) (fun c_107 => ?_)
        · 
          refine lv_iload hx hb dX0_findFirst_113 (lv_at hl 0 rfl) ?_
          refine lv_iconst (v := nI 1) hx hb dX0_findFirst_115 (by decide +kernel) ?_
          refine tw_icmp_eq (tgt := 122) hx hb (by omega) (by omega) dX0_findFirst_116 (by decide) (fun c_116 => False.elim (by omega)) (fun c_116 => ?_)
          refine tw_iinc (lv' := [(2, .int (nI (j + 1))), (5, .int (nI sg)), (1, .int (nI i)), (3, .int (nI last)), (0, .ref (q 0))]) hx hb dX0_findFirst_119 hl (k := 2) rfl (by decide) rfl (fun ls hl => ?_)
          refine lv_iload hx hb dX0_findFirst_122 (lv_at hl 1 rfl) ?_
          refine lv_istore_n (lv' := [(3, .int (nI sg)), (2, .int (nI (j + 1))), (5, .int (nI sg)), (1, .int (nI i)), (0, .ref (q 0))]) hx hb dX0_findFirst_124 rfl hl (by decide) rfl (fun ls hl => ?_)
          refine lv_goto (tgt := 15) hx hb dX0_findFirst_125 (by decide) ?_
          exact ih i (j + 1) sg (c1 + 1) (upd cs1 c1 (nI sg)) (by omega) (by omega) (by omega) (by omega) (by omega) (by rw [← g6, hstep, if_pos c_107, if_neg c_116]) _ _ _ hP hD hS (lv_sub hl [3, 1, 0, 4] rfl)
        · 
          refine tw_iinc (lv' := [(1, .int (nI (i + 1))), (5, .int (nI sg)), (2, .int (nI j)), (3, .int (nI last)), (0, .ref (q 0))]) hx hb dX0_findFirst_110 hl (k := 1) rfl (by decide) rfl (fun ls hl => ?_)
          refine lv_iload hx hb dX0_findFirst_113 (lv_at hl 1 rfl) ?_
          refine lv_iconst (v := nI 1) hx hb dX0_findFirst_115 (by decide +kernel) ?_
          refine tw_icmp_eq (tgt := 122) hx hb (by omega) (by omega) dX0_findFirst_116 (by decide) (fun c_116 => ?_) (fun c_116 => ?_)
          · 
            refine lv_iload hx hb dX0_findFirst_122 (lv_at hl 1 rfl) ?_
            refine lv_istore_n (lv' := [(3, .int (nI sg)), (1, .int (nI (i + 1))), (5, .int (nI sg)), (2, .int (nI j)), (0, .ref (q 0))]) hx hb dX0_findFirst_124 rfl hl (by decide) rfl (fun ls hl => ?_)
            refine lv_goto (tgt := 15) hx hb dX0_findFirst_125 (by decide) ?_
            exact ih (i + 1) j sg (c1 + 1) (upd cs1 c1 (nI sg)) (by omega) (by omega) (by omega) (by omega) (by omega) (by rw [← g6, hstep, if_neg c_107, if_pos c_116]) _ _ _ hP hD hS (lv_sub hl [1, 3, 0, 4] rfl)
          · 
            refine tw_iinc (lv' := [(2, .int (nI (j + 1))), (1, .int (nI (i + 1))), (5, .int (nI sg)), (3, .int (nI last)), (0, .ref (q 0))]) hx hb dX0_findFirst_119 hl (k := 2) rfl (by decide) rfl (fun ls hl => ?_)
            refine lv_iload hx hb dX0_findFirst_122 (lv_at hl 2 rfl) ?_
            refine lv_istore_n (lv' := [(3, .int (nI sg)), (2, .int (nI (j + 1))), (1, .int (nI (i + 1))), (5, .int (nI sg)), (0, .ref (q 0))]) hx hb dX0_findFirst_124 rfl hl (by decide) rfl (fun ls hl => ?_)
            refine lv_goto (tgt := 15) hx hb dX0_findFirst_125 (by decide) ?_
            exact ih (i + 1) (j + 1) sg (c1 + 1) (upd cs1 c1 (nI sg)) (by omega) (by omega) (by omega) (by omega) (by omega) (by rw [← g6, hstep, if_neg c_107, if_neg c_116]) _ _ _ hP hD hS (lv_sub hl [2, 1, 0, 4] rfl)
      have j35 : (i < cn 0 ∨ j < cn 1) → ∀ (H : Heap) (locs : List Loc) (ls : Array Slot), va_P D vwCl (xw q d cn lt ge gu op le fr fw (x_bhl lt ge gu op le (cn 0) (cn 1) (cn 0 + 1) bh) fd c1 cs1) H → va_D A (xw q d cn lt ge gu op le fr fw (x_bhl lt ge gu op le (cn 0) (cn 1) (cn 0 + 1) bh) fd c1 cs1) → va_S A s.heap H locs → lv_has ls 6 [(1, .int (nI i)), (2, .int (nI j)), (3, .int (nI last)), (0, .ref (q 0))] → W p l e (tw_rm 4 98) s m ([.ref (q 0)] : List Value).toArray below meth c H locs 0 0 (MQ below (tw_Qv D vwCl (xt d) (xw q d cn lt ge gu op le fr fw (x_bhl lt ge gu op le (cn 0) (cn 1) (cn 0 + 1) bh) fd ((x_fnd (x_srt lt ge gu op le (cn 0) (cn 1) (x_bhl lt ge gu op le (cn 0) (cn 1) (cn 0 + 1) bh)) (cn 0) (cn 1) 21 0 0 0 0 cs).1) ((x_fnd (x_srt lt ge gu op le (cn 0) (cn 1) (x_bhl lt ge gu op le (cn 0) (cn 1) (cn 0 + 1) bh)) (cn 0) (cn 1) 21 0 0 0 0 cs).2)) A) ([.ref (q 0)] : List Value).toArray s 0 0 A) (F0 m 35 ls []) := by
        intro hne H locs ls hP hD hS hl
        refine lv_aload_n hx hb dX0_findFirst_35 rfl (lv_at hl 3 rfl) ?_
        refine va_get (D := D) (ci := 0) (v := .ref (q 5)) (C := RX0) (T := TX0) (N := 12) hx hb hts in_X0 hown hK hP 0 rfl rfl 8 (by decide) (hts _ q38) (fun _ h9 => h9) rfl dX0_findFirst_36 ?_
        refine lv_bipush (v := nI 121) hx hb dX0_findFirst_39 (by decide +kernel) ?_
        refine lv_iload_n hx hb dX0_findFirst_41 rfl (lv_at hl 2 rfl) ?_
        refine tw_imul hx hb dX0_findFirst_42 ?_
        refine lv_bipush (v := nI 11) hx hb dX0_findFirst_43 (by decide +kernel) ?_
        refine lv_iload_n hx hb dX0_findFirst_45 rfl (lv_at hl 0 rfl) ?_
        refine tw_imul hx hb dX0_findFirst_46 ?_
        refine tw_iadd hx hb dX0_findFirst_47 ?_
        refine lv_iload_n hx hb dX0_findFirst_48 rfl (lv_at hl 1 rfl) ?_
        refine tw_iadd hx hb dX0_findFirst_49 ?_
        refine tw_iald hx hb hK hP 5 4 rfl rfl (by omega) (by decide) dX0_findFirst_50 ?_
        refine lv_istore (lv' := [(4, .int ((x_bhl lt ge gu op le (cn 0) (cn 1) (cn 0 + 1) bh) (121 * last + 11 * i + j))), (1, .int (nI i)), (2, .int (nI j)), (3, .int (nI last)), (0, .ref (q 0))]) hx hb dX0_findFirst_51 hl (by decide) rfl (fun ls hl => ?_)
        refine lv_iconst (v := nI 0) hx hb dX0_findFirst_53 (by decide +kernel) ?_
        refine lv_istore (lv' := [(5, .int (nI 0)), (4, .int ((x_bhl lt ge gu op le (cn 0) (cn 1) (cn 0 + 1) bh) (121 * last + 11 * i + j))), (1, .int (nI i)), (2, .int (nI j)), (3, .int (nI last)), (0, .ref (q 0))]) hx hb dX0_findFirst_54 hl (by decide) rfl (fun ls hl => ?_)
        refine lv_iload hx hb dX0_findFirst_56 (lv_at hl 0 rfl) ?_
        refine lv_iconst (v := nI 2) hx hb dX0_findFirst_58 (by decide +kernel) ?_
        refine tw_icmp_ge (tgt := 82) hx hb (by omega) (by omega) dX0_findFirst_59 (by decide) (fun c_59 => False.elim (by omega)) (fun c_59 => ?_)
        refine lv_aload_n hx hb dX0_findFirst_62 rfl (lv_at hl 5 rfl) ?_
        refine lv_iload_n hx hb dX0_findFirst_63 rfl (lv_at hl 2 rfl) ?_
        refine lv_iload_n hx hb dX0_findFirst_64 rfl (lv_at hl 3 rfl) ?_
        refine lv_iload_n hx hb dX0_findFirst_65 rfl (lv_at hl 4 rfl) ?_
        refine lv_iload hx hb dX0_findFirst_66 (lv_at hl 0 rfl) ?_
        refine tw_calli (n := 4) (rest := []) (wr := []) (w' := (xw q d cn lt ge gu op le fr fw (x_bhl lt ge gu op le (cn 0) (cn 1) (cn 0 + 1) bh) fd c1 cs1)) (kX0_withColumn l D q d cn lt ge gu op le fr fw (x_bhl lt ge gu op le (cn 0) (cn 1) (cn 0 + 1) bh) fd c1 cs1 i j last 0 (by omega) (by omega) (by omega) (by omega) (by omega) (by omega)) S (lw_V q139 q141 qs11 q20 q142) (by decide +kernel) ⟨Nat.le_of_ble_eq_true rfl, Nat.le_of_ble_eq_true rfl⟩ hK hP hD hS hA [0, 1, 2, 3, 4, 5, 6] [] [0, 1, 2, 3, 4, 5] rfl rfl (by decide) (by decide) (fun i h => absurd h List.not_mem_nil) rfl (ci := 0) rfl (q0 := 0) rfl rfl rfl hl.1 (Nat.le_of_ble_eq_true rfl) dX0_findFirst_68 ⟨Nat.zero_le _, Nat.zero_le _⟩ (fun H locs hP hD hS => ?_)
        have hP : va_P D vwCl (xw q d cn lt ge gu op le fr fw (x_bhl lt ge gu op le (cn 0) (cn 1) (cn 0 + 1) bh) fd c1 cs1) H := hP
        have hD : va_D A (xw q d cn lt ge gu op le fr fw (x_bhl lt ge gu op le (cn 0) (cn 1) (cn 0 + 1) bh) fd c1 cs1) := hD
        refine lv_iload hx hb dX0_findFirst_71 (lv_at hl 1 rfl) ?_
        refine lv_icmp_eq (tgt := 82) hx hb dX0_findFirst_73 (by decide) (fun c_73 => ?_) (fun c_73 => ?_)
        · 
          exact j82 hne 0 (if_pos c_73).symm _ _ _ hP hD hS (lv_sub hl [0, 2, 3, 4, 5] rfl)
        · 
          have c0 := c_73
          refine tw_iinc (lv' := [(5, .int (nI (0 + 1))), (4, .int ((x_bhl lt ge gu op le (cn 0) (cn 1) (cn 0 + 1) bh) (121 * last + 11 * i + j))), (1, .int (nI i)), (2, .int (nI j)), (3, .int (nI last)), (0, .ref (q 0))]) hx hb dX0_findFirst_76 hl (k := 0) rfl (by decide) rfl (fun ls hl => ?_)
          refine lv_goto (tgt := 56) hx hb dX0_findFirst_79 (by decide) ?_
          have hl : lv_has ls 6 [(5, .int (nI 1)), (4, .int ((x_bhl lt ge gu op le (cn 0) (cn 1) (cn 0 + 1) bh) (121 * last + 11 * i + j))), (1, .int (nI i)), (2, .int (nI j)), (3, .int (nI last)), (0, .ref (q 0))] := hl
          refine lv_iload hx hb dX0_findFirst_56 (lv_at hl 0 rfl) ?_
          refine lv_iconst (v := nI 2) hx hb dX0_findFirst_58 (by decide +kernel) ?_
          refine tw_icmp_ge (tgt := 82) hx hb (by omega) (by omega) dX0_findFirst_59 (by decide) (fun c_59 => False.elim (by omega)) (fun c_59 => ?_)
          refine lv_aload_n hx hb dX0_findFirst_62 rfl (lv_at hl 5 rfl) ?_
          refine lv_iload_n hx hb dX0_findFirst_63 rfl (lv_at hl 2 rfl) ?_
          refine lv_iload_n hx hb dX0_findFirst_64 rfl (lv_at hl 3 rfl) ?_
          refine lv_iload_n hx hb dX0_findFirst_65 rfl (lv_at hl 4 rfl) ?_
          refine lv_iload hx hb dX0_findFirst_66 (lv_at hl 0 rfl) ?_
          refine tw_calli (n := 4) (rest := []) (wr := []) (w' := (xw q d cn lt ge gu op le fr fw (x_bhl lt ge gu op le (cn 0) (cn 1) (cn 0 + 1) bh) fd c1 cs1)) (kX0_withColumn l D q d cn lt ge gu op le fr fw (x_bhl lt ge gu op le (cn 0) (cn 1) (cn 0 + 1) bh) fd c1 cs1 i j last 1 (by omega) (by omega) (by omega) (by omega) (by omega) (by omega)) S (lw_V q139 q141 qs11 q20 q142) (by decide +kernel) ⟨Nat.le_of_ble_eq_true rfl, Nat.le_of_ble_eq_true rfl⟩ hK hP hD hS hA [0, 1, 2, 3, 4, 5, 6] [] [0, 1, 2, 3, 4, 5] rfl rfl (by decide) (by decide) (fun i h => absurd h List.not_mem_nil) rfl (ci := 0) rfl (q0 := 0) rfl rfl rfl hl.1 (Nat.le_of_ble_eq_true rfl) dX0_findFirst_68 ⟨Nat.zero_le _, Nat.zero_le _⟩ (fun H locs hP hD hS => ?_)
          have hP : va_P D vwCl (xw q d cn lt ge gu op le fr fw (x_bhl lt ge gu op le (cn 0) (cn 1) (cn 0 + 1) bh) fd c1 cs1) H := hP
          have hD : va_D A (xw q d cn lt ge gu op le fr fw (x_bhl lt ge gu op le (cn 0) (cn 1) (cn 0 + 1) bh) fd c1 cs1) := hD
          refine lv_iload hx hb dX0_findFirst_71 (lv_at hl 1 rfl) ?_
          refine lv_icmp_eq (tgt := 82) hx hb dX0_findFirst_73 (by decide) (fun c_73 => ?_) (fun c_73 => ?_)
          · 
            exact j82 hne 1 ((if_neg c0).trans (if_pos c_73)).symm _ _ _ hP hD hS (lv_sub hl [0, 2, 3, 4, 5] rfl)
          · 
            have c1_ := c_73
            refine tw_iinc (lv' := [(5, .int (nI (1 + 1))), (4, .int ((x_bhl lt ge gu op le (cn 0) (cn 1) (cn 0 + 1) bh) (121 * last + 11 * i + j))), (1, .int (nI i)), (2, .int (nI j)), (3, .int (nI last)), (0, .ref (q 0))]) hx hb dX0_findFirst_76 hl (k := 0) rfl (by decide) rfl (fun ls hl => ?_)
            refine lv_goto (tgt := 56) hx hb dX0_findFirst_79 (by decide) ?_
            have hl : lv_has ls 6 [(5, .int (nI 2)), (4, .int ((x_bhl lt ge gu op le (cn 0) (cn 1) (cn 0 + 1) bh) (121 * last + 11 * i + j))), (1, .int (nI i)), (2, .int (nI j)), (3, .int (nI last)), (0, .ref (q 0))] := hl
            refine lv_iload hx hb dX0_findFirst_56 (lv_at hl 0 rfl) ?_
            refine lv_iconst (v := nI 2) hx hb dX0_findFirst_58 (by decide +kernel) ?_
            refine tw_icmp_ge (tgt := 82) hx hb (by omega) (by omega) dX0_findFirst_59 (by decide) (fun c_59 => ?_) (fun c_59 => False.elim (by omega))
            exact j82 hne 2 ((if_neg c0).trans (if_neg c1_)).symm _ _ _ hP hD hS (lv_sub hl [0, 2, 3, 4, 5] rfl)
      intro H locs ls hP hD hS hl
      refine lv_iload_n hx hb dX0_findFirst_15 rfl (lv_at hl 0 rfl) ?_
      refine lv_aload_n hx hb dX0_findFirst_16 rfl (lv_at hl 3 rfl) ?_
      refine va_get (D := D) (ci := 0) (v := .ref (q 1)) (C := RX0) (T := TX0) (N := 12) hx hb hts in_X0 hown hK hP 0 rfl rfl 0 (by decide) (hts _ q30) (fun _ h9 => h9) rfl dX0_findFirst_17 ?_
      refine lv_iconst (v := nI 0) hx hb dX0_findFirst_20 (by decide +kernel) ?_
      refine tw_bald hx hb hK hP 1 0 rfl rfl (by omega) (by decide) dX0_findFirst_21 ?_
      refine tw_icmp_lt (tgt := 35) hx hb (by omega) (by omega) dX0_findFirst_22 (by decide) (fun c_22 => ?_) (fun c_22 => ?_)
      · 
        exact j35 (by omega) _ _ _ hP hD hS (lv_sub hl [0, 1, 2, 3] rfl)
      · 
        refine lv_iload_n hx hb dX0_findFirst_25 rfl (lv_at hl 1 rfl) ?_
        refine lv_aload_n hx hb dX0_findFirst_26 rfl (lv_at hl 3 rfl) ?_
        refine va_get (D := D) (ci := 0) (v := .ref (q 1)) (C := RX0) (T := TX0) (N := 12) hx hb hts in_X0 hown hK hP 0 rfl rfl 0 (by decide) (hts _ q30) (fun _ h9 => h9) rfl dX0_findFirst_27 ?_
        refine lv_iconst (v := nI 1) hx hb dX0_findFirst_30 (by decide +kernel) ?_
        refine tw_bald hx hb hK hP 1 0 rfl rfl (by omega) (by decide) dX0_findFirst_31 ?_
        refine tw_icmp_ge (tgt := 128) hx hb (by omega) (by omega) dX0_findFirst_32 (by decide) (fun c_32 => ?_) (fun c_32 => ?_)
        · 
          have hh : x_fnd (x_srt lt ge gu op le (cn 0) (cn 1) (x_bhl lt ge gu op le (cn 0) (cn 1) (cn 0 + 1) bh)) (cn 0) (cn 1) (f + 1) i j last c1 cs1 = (c1, cs1) := if_neg (by omega)
          have hE : (xw q d cn lt ge gu op le fr fw (x_bhl lt ge gu op le (cn 0) (cn 1) (cn 0 + 1) bh) fd c1 cs1) = (xw q d cn lt ge gu op le fr fw (x_bhl lt ge gu op le (cn 0) (cn 1) (cn 0 + 1) bh) fd ((x_fnd (x_srt lt ge gu op le (cn 0) (cn 1) (x_bhl lt ge gu op le (cn 0) (cn 1) (cn 0 + 1) bh)) (cn 0) (cn 1) 21 0 0 0 0 cs).1) ((x_fnd (x_srt lt ge gu op le (cn 0) (cn 1) (x_bhl lt ge gu op le (cn 0) (cn 1) (cn 0 + 1) bh)) (cn 0) (cn 1) 21 0 0 0 0 cs).2)) := by rw [← g6, hh]
          rw [hE] at hP hD
          clear hE
          exact tw_vret hx hb hr hlocks hK hP hD hS dX0_findFirst_128
        · 
          exact j35 (by omega) _ _ _ hP hD hS (lv_sub hl [0, 1, 2, 3] rfl)
  refine lv_aload_n hx hb dX0_findFirst_0 rfl (lv_at hl 0 rfl) ?_
  refine tw_callv (n := 0) (rest := []) (wr := []) (w' := (xw q d cn lt ge gu op le fr fw (x_bhl lt ge gu op le (cn 0) (cn 1) (cn 0 + 1) bh) fd cc cs)) (kX0_fillBehind l D q d cn lt ge gu op le fr fw bh fd cc cs h1 h2) S (lw_V q131 q133 qs9 q20 q134) (by decide +kernel) ⟨Nat.le_of_ble_eq_true rfl, Nat.le_of_ble_eq_true rfl⟩ hK hP hD hS hA [0, 1, 2, 3, 4, 5, 6] [] [0, 1, 2, 3, 4, 5] rfl rfl (by decide) (by decide) (fun i h => absurd h List.not_mem_nil) rfl (ci := 0) rfl (q0 := 0) rfl rfl rfl hl.1 (Nat.le_of_ble_eq_true rfl) dX0_findFirst_1 ⟨Nat.zero_le _, Nat.zero_le _⟩ (fun H locs hP hD hS => ?_)
  have hP : va_P D vwCl (xw q d cn lt ge gu op le fr fw (x_bhl lt ge gu op le (cn 0) (cn 1) (cn 0 + 1) bh) fd cc cs) H := hP
  have hD : va_D A (xw q d cn lt ge gu op le fr fw (x_bhl lt ge gu op le (cn 0) (cn 1) (cn 0 + 1) bh) fd cc cs) := hD
  refine lv_aload_n hx hb dX0_findFirst_4 rfl (lv_at hl 0 rfl) ?_
  refine lv_iconst (v := nI 0) hx hb dX0_findFirst_5 (by decide +kernel) ?_
  refine va_put (D := D) (ci := 0) (v := .int (nI 0)) (ty := .int) (C := RX0) (T := TX0) (N := 12) hx hb hts in_X0 tyX0 tyX0_ok nmX0 hown hK hP hD hS 0 rfl rfl 10 (by decide) (hts _ q40) (fun _ h9 => h9) rfl (by decide +kernel) rfl rfl (Nat.le_of_ble_eq_true rfl) dX0_findFirst_6 (fun H locs hP hD hS => ?_)
  have hP : va_P D vwCl (xw q d cn lt ge gu op le fr fw (x_bhl lt ge gu op le (cn 0) (cn 1) (cn 0 + 1) bh) fd 0 cs) H := hP
  have hD : va_D A (xw q d cn lt ge gu op le fr fw (x_bhl lt ge gu op le (cn 0) (cn 1) (cn 0 + 1) bh) fd 0 cs) := hD
  refine lv_iconst (v := nI 0) hx hb dX0_findFirst_9 (by decide +kernel) ?_
  refine lv_istore_n (lv' := [(1, .int (nI 0)), (0, .ref (q 0))]) hx hb dX0_findFirst_10 rfl hl (by decide) rfl (fun ls hl => ?_)
  refine lv_iconst (v := nI 0) hx hb dX0_findFirst_11 (by decide +kernel) ?_
  refine lv_istore_n (lv' := [(2, .int (nI 0)), (1, .int (nI 0)), (0, .ref (q 0))]) hx hb dX0_findFirst_12 rfl hl (by decide) rfl (fun ls hl => ?_)
  refine lv_iconst (v := nI 0) hx hb dX0_findFirst_13 (by decide +kernel) ?_
  refine lv_istore_n (lv' := [(3, .int (nI 0)), (2, .int (nI 0)), (1, .int (nI 0)), (0, .ref (q 0))]) hx hb dX0_findFirst_14 rfl hl (by decide) rfl (fun ls hl => ?_)
  exact loop 21 0 0 0 0 cs (by omega) (by omega) (by omega) (by omega) (by omega) rfl _ _ _ hP hD hS (lv_sub hl [2, 1, 0, 3] rfl)
set_option maxHeartbeats 4000000 in
set_option maxRecDepth 100000 in
theorem kX0_columns  (h1 : cn 0 ≤ 10) (h2 : cn 1 ≤ 10) (h3 : ∀ i j last : Nat, i ≤ cn 0 → j ≤ cn 1 → last < 3 → ¬ (i = cn 0 ∧ j = cn 1) → (x_srt lt ge gu op le (cn 0) (cn 1) (x_bhl lt ge gu op le (cn 0) (cn 1) (cn 0 + 1) bh) i j last = 2 ∨ i + 1 ≤ cn 0) ∧ (x_srt lt ge gu op le (cn 0) (cn 1) (x_bhl lt ge gu op le (cn 0) (cn 1) (cn 0 + 1) bh) i j last = 1 ∨ j + 1 ≤ cn 1)) : Ci l yX0_columns cX0_columns 1 .int 5 123 D vwCl (xt d) [.ref (q 0)] (xw q d cn lt ge gu op le fr fw bh fd cc cs) (nI (x_fnd (x_srt lt ge gu op le (cn 0) (cn 1) (x_bhl lt ge gu op le (cn 0) (cn 1) (cn 0 + 1) bh)) (cn 0) (cn 1) 21 0 0 0 0 cs).1) (xw q d cn lt ge gu op le fr fw (x_bhl lt ge gu op le (cn 0) (cn 1) (cn 0 + 1) bh) fd ((x_fnd (x_srt lt ge gu op le (cn 0) (cn 1) (x_bhl lt ge gu op le (cn 0) (cn 1) (cn 0 + 1) bh)) (cn 0) (cn 1) 21 0 0 0 0 cs).1) ((x_fnd (x_srt lt ge gu op le (cn 0) (cn 1) (x_bhl lt ge gu op le (cn 0) (cn 1) (cn 0 + 1) bh)) (cn 0) (cn 1) 21 0 0 0 0 cs).2)) := by
  refine Ci.of (by decide +kernel) (Nat.le_of_ble_eq_true rfl) ?_
  intro p e s m below meth c A ls hx hb hr hlocks hml hown hts hK hP hD hS hA hl
  have hown : s.vm.findClass RX0 = some m.cls := hown
  have S : CallFix p m c cX0_columns 1 s ([.ref (q 0)] : List Value).toArray lw_all RX0 := ⟨hx, hb, hml, hown, hts⟩
  have hl : lv_has ls 1 [(0, .ref (q 0))] := hl
  refine lv_aload_n hx hb dX0_columns_0 rfl (lv_at hl 0 rfl) ?_
  refine tw_callv (n := 0) (rest := []) (wr := []) (w' := (xw q d cn lt ge gu op le fr fw (x_bhl lt ge gu op le (cn 0) (cn 1) (cn 0 + 1) bh) fd ((x_fnd (x_srt lt ge gu op le (cn 0) (cn 1) (x_bhl lt ge gu op le (cn 0) (cn 1) (cn 0 + 1) bh)) (cn 0) (cn 1) 21 0 0 0 0 cs).1) ((x_fnd (x_srt lt ge gu op le (cn 0) (cn 1) (x_bhl lt ge gu op le (cn 0) (cn 1) (cn 0 + 1) bh)) (cn 0) (cn 1) 21 0 0 0 0 cs).2))) (kX0_findFirst l D q d cn lt ge gu op le fr fw bh fd cc cs h1 h2 h3) S (lw_V q127 q129 qs8 q20 q130) (by decide +kernel) ⟨Nat.le_of_ble_eq_true rfl, Nat.le_of_ble_eq_true rfl⟩ hK hP hD hS hA [0, 1, 2, 3, 4, 5, 6] [] [0, 1, 2, 3, 4, 5] rfl rfl (by decide) (by decide) (fun i h => absurd h List.not_mem_nil) rfl (ci := 0) rfl (q0 := 0) rfl rfl rfl hl.1 (Nat.le_of_ble_eq_true rfl) dX0_columns_1 ⟨Nat.zero_le _, Nat.zero_le _⟩ (fun H locs hP hD hS => ?_)
  have hP : va_P D vwCl (xw q d cn lt ge gu op le fr fw (x_bhl lt ge gu op le (cn 0) (cn 1) (cn 0 + 1) bh) fd ((x_fnd (x_srt lt ge gu op le (cn 0) (cn 1) (x_bhl lt ge gu op le (cn 0) (cn 1) (cn 0 + 1) bh)) (cn 0) (cn 1) 21 0 0 0 0 cs).1) ((x_fnd (x_srt lt ge gu op le (cn 0) (cn 1) (x_bhl lt ge gu op le (cn 0) (cn 1) (cn 0 + 1) bh)) (cn 0) (cn 1) 21 0 0 0 0 cs).2)) H := hP
  have hD : va_D A (xw q d cn lt ge gu op le fr fw (x_bhl lt ge gu op le (cn 0) (cn 1) (cn 0 + 1) bh) fd ((x_fnd (x_srt lt ge gu op le (cn 0) (cn 1) (x_bhl lt ge gu op le (cn 0) (cn 1) (cn 0 + 1) bh)) (cn 0) (cn 1) 21 0 0 0 0 cs).1) ((x_fnd (x_srt lt ge gu op le (cn 0) (cn 1) (x_bhl lt ge gu op le (cn 0) (cn 1) (cn 0 + 1) bh)) (cn 0) (cn 1) 21 0 0 0 0 cs).2)) := hD
  refine lv_aload_n hx hb dX0_columns_4 rfl (lv_at hl 0 rfl) ?_
  refine va_get (D := D) (ci := 0) (v := .int (nI ((x_fnd (x_srt lt ge gu op le (cn 0) (cn 1) (x_bhl lt ge gu op le (cn 0) (cn 1) (cn 0 + 1) bh)) (cn 0) (cn 1) 21 0 0 0 0 cs).1))) (C := RX0) (T := TX0) (N := 12) hx hb hts in_X0 hown hK hP 0 rfl rfl 10 (by decide) (hts _ q40) (fun _ h9 => h9) rfl dX0_columns_5 ?_
  exact tw_iret hx hb hr hlocks hK hP hD hS (rfl) dX0_columns_8
set_option maxHeartbeats 4000000 in
set_option maxRecDepth 100000 in
theorem kX0_column_out (w : Int32) (h1 : cn 0 ≤ 10) (h2 : cn 1 ≤ 10) (h3 : ∀ i j last : Nat, i ≤ cn 0 → j ≤ cn 1 → last < 3 → ¬ (i = cn 0 ∧ j = cn 1) → (x_srt lt ge gu op le (cn 0) (cn 1) (x_bhl lt ge gu op le (cn 0) (cn 1) (cn 0 + 1) bh) i j last = 2 ∨ i + 1 ≤ cn 0) ∧ (x_srt lt ge gu op le (cn 0) (cn 1) (x_bhl lt ge gu op le (cn 0) (cn 1) (cn 0 + 1) bh) i j last = 1 ∨ j + 1 ≤ cn 1)) (h4 : w < 0 ∨ nI (x_fnd (x_srt lt ge gu op le (cn 0) (cn 1) (x_bhl lt ge gu op le (cn 0) (cn 1) (cn 0 + 1) bh)) (cn 0) (cn 1) 21 0 0 0 0 cs).1 ≤ w) : Ci l yX0_column cX0_column 2 .int 5 123 D vwCl (xt d) [.ref (q 0), .int w] (xw q d cn lt ge gu op le fr fw bh fd cc cs) (-1000) (xw q d cn lt ge gu op le fr fw (x_bhl lt ge gu op le (cn 0) (cn 1) (cn 0 + 1) bh) fd ((x_fnd (x_srt lt ge gu op le (cn 0) (cn 1) (x_bhl lt ge gu op le (cn 0) (cn 1) (cn 0 + 1) bh)) (cn 0) (cn 1) 21 0 0 0 0 cs).1) ((x_fnd (x_srt lt ge gu op le (cn 0) (cn 1) (x_bhl lt ge gu op le (cn 0) (cn 1) (cn 0 + 1) bh)) (cn 0) (cn 1) 21 0 0 0 0 cs).2)) := by
  refine Ci.of (by decide +kernel) (Nat.le_of_ble_eq_true rfl) ?_
  intro p e s m below meth c A ls hx hb hr hlocks hml hown hts hK hP hD hS hA hl
  have hown : s.vm.findClass RX0 = some m.cls := hown
  have S : CallFix p m c cX0_column 2 s ([.ref (q 0), .int w] : List Value).toArray lw_all RX0 := ⟨hx, hb, hml, hown, hts⟩
  have hl : lv_has ls 2 [(0, .ref (q 0)), (1, .int w)] := hl
  refine lv_aload_n hx hb dX0_column_0 rfl (lv_at hl 0 rfl) ?_
  refine tw_callv (n := 0) (rest := []) (wr := []) (w' := (xw q d cn lt ge gu op le fr fw (x_bhl lt ge gu op le (cn 0) (cn 1) (cn 0 + 1) bh) fd ((x_fnd (x_srt lt ge gu op le (cn 0) (cn 1) (x_bhl lt ge gu op le (cn 0) (cn 1) (cn 0 + 1) bh)) (cn 0) (cn 1) 21 0 0 0 0 cs).1) ((x_fnd (x_srt lt ge gu op le (cn 0) (cn 1) (x_bhl lt ge gu op le (cn 0) (cn 1) (cn 0 + 1) bh)) (cn 0) (cn 1) 21 0 0 0 0 cs).2))) (kX0_findFirst l D q d cn lt ge gu op le fr fw bh fd cc cs h1 h2 h3) S (lw_V q127 q129 qs8 q20 q130) (by decide +kernel) ⟨Nat.le_of_ble_eq_true rfl, Nat.le_of_ble_eq_true rfl⟩ hK hP hD hS hA [0, 1, 2, 3, 4, 5, 6] [] [0, 1, 2, 3, 4, 5] rfl rfl (by decide) (by decide) (fun i h => absurd h List.not_mem_nil) rfl (ci := 0) rfl (q0 := 0) rfl rfl rfl hl.1 (Nat.le_of_ble_eq_true rfl) dX0_column_1 ⟨Nat.zero_le _, Nat.zero_le _⟩ (fun H locs hP hD hS => ?_)
  have hP : va_P D vwCl (xw q d cn lt ge gu op le fr fw (x_bhl lt ge gu op le (cn 0) (cn 1) (cn 0 + 1) bh) fd ((x_fnd (x_srt lt ge gu op le (cn 0) (cn 1) (x_bhl lt ge gu op le (cn 0) (cn 1) (cn 0 + 1) bh)) (cn 0) (cn 1) 21 0 0 0 0 cs).1) ((x_fnd (x_srt lt ge gu op le (cn 0) (cn 1) (x_bhl lt ge gu op le (cn 0) (cn 1) (cn 0 + 1) bh)) (cn 0) (cn 1) 21 0 0 0 0 cs).2)) H := hP
  have hD : va_D A (xw q d cn lt ge gu op le fr fw (x_bhl lt ge gu op le (cn 0) (cn 1) (cn 0 + 1) bh) fd ((x_fnd (x_srt lt ge gu op le (cn 0) (cn 1) (x_bhl lt ge gu op le (cn 0) (cn 1) (cn 0 + 1) bh)) (cn 0) (cn 1) 21 0 0 0 0 cs).1) ((x_fnd (x_srt lt ge gu op le (cn 0) (cn 1) (x_bhl lt ge gu op le (cn 0) (cn 1) (cn 0 + 1) bh)) (cn 0) (cn 1) 21 0 0 0 0 cs).2)) := hD
  refine lv_iload_n hx hb dX0_column_4 rfl (lv_at hl 1 rfl) ?_
  refine lv_if_lt (tgt := 16) hx hb dX0_column_5 (by decide) (fun c_5 => ?_) (fun c_5 => ?_)
  · 
    refine lv_sipush (v := -1000) hx hb dX0_column_16 (by decide +kernel) ?_
    refine lv_goto (tgt := 28) hx hb dX0_column_19 (by decide) ?_
    exact tw_iret hx hb hr hlocks hK hP hD hS (rfl) dX0_column_28
  · 
    refine lv_iload_n hx hb dX0_column_8 rfl (lv_at hl 1 rfl) ?_
    refine lv_aload_n hx hb dX0_column_9 rfl (lv_at hl 0 rfl) ?_
    refine va_get (D := D) (ci := 0) (v := .int (nI ((x_fnd (x_srt lt ge gu op le (cn 0) (cn 1) (x_bhl lt ge gu op le (cn 0) (cn 1) (cn 0 + 1) bh)) (cn 0) (cn 1) 21 0 0 0 0 cs).1))) (C := RX0) (T := TX0) (N := 12) hx hb hts in_X0 hown hK hP 0 rfl rfl 10 (by decide) (hts _ q40) (fun _ h9 => h9) rfl dX0_column_10 ?_
    refine lv_icmp_lt (tgt := 22) hx hb dX0_column_13 (by decide) (fun c_13 => False.elim (by rcases h4 with h9 | h9; exact c_5 h9; exact tw_nlt h9 c_13)) (fun c_13 => ?_)
    refine lv_sipush (v := -1000) hx hb dX0_column_16 (by decide +kernel) ?_
    refine lv_goto (tgt := 28) hx hb dX0_column_19 (by decide) ?_
    exact tw_iret hx hb hr hlocks hK hP hD hS (rfl) dX0_column_28
set_option maxHeartbeats 4000000 in
set_option maxRecDepth 100000 in
theorem kX0_column_in (w : Nat) (h1 : cn 0 ≤ 10) (h2 : cn 1 ≤ 10) (h3 : ∀ i j last : Nat, i ≤ cn 0 → j ≤ cn 1 → last < 3 → ¬ (i = cn 0 ∧ j = cn 1) → (x_srt lt ge gu op le (cn 0) (cn 1) (x_bhl lt ge gu op le (cn 0) (cn 1) (cn 0 + 1) bh) i j last = 2 ∨ i + 1 ≤ cn 0) ∧ (x_srt lt ge gu op le (cn 0) (cn 1) (x_bhl lt ge gu op le (cn 0) (cn 1) (cn 0 + 1) bh) i j last = 1 ∨ j + 1 ≤ cn 1)) (h4 : w < (x_fnd (x_srt lt ge gu op le (cn 0) (cn 1) (x_bhl lt ge gu op le (cn 0) (cn 1) (cn 0 + 1) bh)) (cn 0) (cn 1) 21 0 0 0 0 cs).1) (h5 : (x_fnd (x_srt lt ge gu op le (cn 0) (cn 1) (x_bhl lt ge gu op le (cn 0) (cn 1) (cn 0 + 1) bh)) (cn 0) (cn 1) 21 0 0 0 0 cs).1 ≤ 20) : Ci l yX0_column cX0_column 2 .int 5 123 D vwCl (xt d) [.ref (q 0), .int (nI w)] (xw q d cn lt ge gu op le fr fw bh fd cc cs) ((x_fnd (x_srt lt ge gu op le (cn 0) (cn 1) (x_bhl lt ge gu op le (cn 0) (cn 1) (cn 0 + 1) bh)) (cn 0) (cn 1) 21 0 0 0 0 cs).2 w) (xw q d cn lt ge gu op le fr fw (x_bhl lt ge gu op le (cn 0) (cn 1) (cn 0 + 1) bh) fd ((x_fnd (x_srt lt ge gu op le (cn 0) (cn 1) (x_bhl lt ge gu op le (cn 0) (cn 1) (cn 0 + 1) bh)) (cn 0) (cn 1) 21 0 0 0 0 cs).1) ((x_fnd (x_srt lt ge gu op le (cn 0) (cn 1) (x_bhl lt ge gu op le (cn 0) (cn 1) (cn 0 + 1) bh)) (cn 0) (cn 1) 21 0 0 0 0 cs).2)) := by
  refine Ci.of (by decide +kernel) (Nat.le_of_ble_eq_true rfl) ?_
  intro p e s m below meth c A ls hx hb hr hlocks hml hown hts hK hP hD hS hA hl
  have hown : s.vm.findClass RX0 = some m.cls := hown
  have S : CallFix p m c cX0_column 2 s ([.ref (q 0), .int (nI w)] : List Value).toArray lw_all RX0 := ⟨hx, hb, hml, hown, hts⟩
  have hl : lv_has ls 2 [(0, .ref (q 0)), (1, .int (nI w))] := hl
  refine lv_aload_n hx hb dX0_column_0 rfl (lv_at hl 0 rfl) ?_
  refine tw_callv (n := 0) (rest := []) (wr := []) (w' := (xw q d cn lt ge gu op le fr fw (x_bhl lt ge gu op le (cn 0) (cn 1) (cn 0 + 1) bh) fd ((x_fnd (x_srt lt ge gu op le (cn 0) (cn 1) (x_bhl lt ge gu op le (cn 0) (cn 1) (cn 0 + 1) bh)) (cn 0) (cn 1) 21 0 0 0 0 cs).1) ((x_fnd (x_srt lt ge gu op le (cn 0) (cn 1) (x_bhl lt ge gu op le (cn 0) (cn 1) (cn 0 + 1) bh)) (cn 0) (cn 1) 21 0 0 0 0 cs).2))) (kX0_findFirst l D q d cn lt ge gu op le fr fw bh fd cc cs h1 h2 h3) S (lw_V q127 q129 qs8 q20 q130) (by decide +kernel) ⟨Nat.le_of_ble_eq_true rfl, Nat.le_of_ble_eq_true rfl⟩ hK hP hD hS hA [0, 1, 2, 3, 4, 5, 6] [] [0, 1, 2, 3, 4, 5] rfl rfl (by decide) (by decide) (fun i h => absurd h List.not_mem_nil) rfl (ci := 0) rfl (q0 := 0) rfl rfl rfl hl.1 (Nat.le_of_ble_eq_true rfl) dX0_column_1 ⟨Nat.zero_le _, Nat.zero_le _⟩ (fun H locs hP hD hS => ?_)
  have hP : va_P D vwCl (xw q d cn lt ge gu op le fr fw (x_bhl lt ge gu op le (cn 0) (cn 1) (cn 0 + 1) bh) fd ((x_fnd (x_srt lt ge gu op le (cn 0) (cn 1) (x_bhl lt ge gu op le (cn 0) (cn 1) (cn 0 + 1) bh)) (cn 0) (cn 1) 21 0 0 0 0 cs).1) ((x_fnd (x_srt lt ge gu op le (cn 0) (cn 1) (x_bhl lt ge gu op le (cn 0) (cn 1) (cn 0 + 1) bh)) (cn 0) (cn 1) 21 0 0 0 0 cs).2)) H := hP
  have hD : va_D A (xw q d cn lt ge gu op le fr fw (x_bhl lt ge gu op le (cn 0) (cn 1) (cn 0 + 1) bh) fd ((x_fnd (x_srt lt ge gu op le (cn 0) (cn 1) (x_bhl lt ge gu op le (cn 0) (cn 1) (cn 0 + 1) bh)) (cn 0) (cn 1) 21 0 0 0 0 cs).1) ((x_fnd (x_srt lt ge gu op le (cn 0) (cn 1) (x_bhl lt ge gu op le (cn 0) (cn 1) (cn 0 + 1) bh)) (cn 0) (cn 1) 21 0 0 0 0 cs).2)) := hD
  refine lv_iload_n hx hb dX0_column_4 rfl (lv_at hl 1 rfl) ?_
  refine tw_if_lt (tgt := 16) hx hb (by omega) dX0_column_5 (by decide) ?_
  refine lv_iload_n hx hb dX0_column_8 rfl (lv_at hl 1 rfl) ?_
  refine lv_aload_n hx hb dX0_column_9 rfl (lv_at hl 0 rfl) ?_
  refine va_get (D := D) (ci := 0) (v := .int (nI ((x_fnd (x_srt lt ge gu op le (cn 0) (cn 1) (x_bhl lt ge gu op le (cn 0) (cn 1) (cn 0 + 1) bh)) (cn 0) (cn 1) 21 0 0 0 0 cs).1))) (C := RX0) (T := TX0) (N := 12) hx hb hts in_X0 hown hK hP 0 rfl rfl 10 (by decide) (hts _ q40) (fun _ h9 => h9) rfl dX0_column_10 ?_
  refine tw_icmp_lt (tgt := 22) hx hb (by omega) (by omega) dX0_column_13 (by decide) (fun c_13 => ?_) (fun c_13 => False.elim (by omega))
  refine lv_aload_n hx hb dX0_column_22 rfl (lv_at hl 0 rfl) ?_
  refine va_get (D := D) (ci := 0) (v := .ref (q 6)) (C := RX0) (T := TX0) (N := 12) hx hb hts in_X0 hown hK hP 0 rfl rfl 11 (by decide) (hts _ q41) (fun _ h9 => h9) rfl dX0_column_23 ?_
  refine lv_iload_n hx hb dX0_column_26 rfl (lv_at hl 1 rfl) ?_
  refine tw_bald hx hb hK hP 6 5 rfl rfl (by omega) (by decide) dX0_column_27 ?_
  exact tw_iret hx hb hr hlocks hK hP hD hS (rfl) dX0_column_28
set_option maxHeartbeats 4000000 in
set_option maxRecDepth 100000 in
theorem kX0_paired_out (a : Int32) (b : Int32) (h1 : cn 0 ≤ 10) (h2 : cn 1 ≤ 10) (h3 : a < 0 ∨ nI (cn 0) ≤ a ∨ b < 0 ∨ nI (cn 1) ≤ b) : Ci l yX0_paired cX0_paired 5 .boolean 5 119 D vwCl (xt d) [.ref (q 0), .int a, .int b] (xw q d cn lt ge gu op le fr fw bh fd cc cs) (nI 0) (xw q d cn lt ge gu op le fr fw bh fd cc cs) := by
  refine Ci.of (by decide +kernel) (Nat.le_of_ble_eq_true rfl) ?_
  intro p e s m below meth c A ls hx hb hr hlocks hml hown hts hK hP hD hS hA hl
  have hown : s.vm.findClass RX0 = some m.cls := hown
  have S : CallFix p m c cX0_paired 5 s ([.ref (q 0), .int a, .int b] : List Value).toArray lw_all RX0 := ⟨hx, hb, hml, hown, hts⟩
  have hl : lv_has ls 5 [(0, .ref (q 0)), (1, .int a), (2, .int b)] := hl
  refine lv_iload_n hx hb dX0_paired_0 rfl (lv_at hl 1 rfl) ?_
  refine lv_if_lt (tgt := 28) hx hb dX0_paired_1 (by decide) (fun c_1 => ?_) (fun c_1 => ?_)
  · 
    refine lv_iconst (v := nI 0) hx hb dX0_paired_28 (by decide +kernel) ?_
    exact tw_zret hx hb hr hlocks (by decide +kernel) hK hP hD hS (rfl) dX0_paired_29
  · 
    refine lv_iload_n hx hb dX0_paired_4 rfl (lv_at hl 1 rfl) ?_
    refine lv_aload_n hx hb dX0_paired_5 rfl (lv_at hl 0 rfl) ?_
    refine va_get (D := D) (ci := 0) (v := .ref (q 1)) (C := RX0) (T := TX0) (N := 12) hx hb hts in_X0 hown hK hP 0 rfl rfl 0 (by decide) (hts _ q30) (fun _ h9 => h9) rfl dX0_paired_6 ?_
    refine lv_iconst (v := nI 0) hx hb dX0_paired_9 (by decide +kernel) ?_
    refine tw_bald hx hb hK hP 1 0 rfl rfl (by omega) (by decide) dX0_paired_10 ?_
    refine lv_icmp_ge (tgt := 28) hx hb dX0_paired_11 (by decide) (fun c_11 => ?_) (fun c_11 => ?_)
    · 
      refine lv_iconst (v := nI 0) hx hb dX0_paired_28 (by decide +kernel) ?_
      exact tw_zret hx hb hr hlocks (by decide +kernel) hK hP hD hS (rfl) dX0_paired_29
    · 
      refine lv_iload_n hx hb dX0_paired_14 rfl (lv_at hl 2 rfl) ?_
      refine lv_if_lt (tgt := 28) hx hb dX0_paired_15 (by decide) (fun c_15 => ?_) (fun c_15 => ?_)
      · 
        refine lv_iconst (v := nI 0) hx hb dX0_paired_28 (by decide +kernel) ?_
        exact tw_zret hx hb hr hlocks (by decide +kernel) hK hP hD hS (rfl) dX0_paired_29
      · 
        refine lv_iload_n hx hb dX0_paired_18 rfl (lv_at hl 2 rfl) ?_
        refine lv_aload_n hx hb dX0_paired_19 rfl (lv_at hl 0 rfl) ?_
        refine va_get (D := D) (ci := 0) (v := .ref (q 1)) (C := RX0) (T := TX0) (N := 12) hx hb hts in_X0 hown hK hP 0 rfl rfl 0 (by decide) (hts _ q30) (fun _ h9 => h9) rfl dX0_paired_20 ?_
        refine lv_iconst (v := nI 1) hx hb dX0_paired_23 (by decide +kernel) ?_
        refine tw_bald hx hb hK hP 1 0 rfl rfl (by omega) (by decide) dX0_paired_24 ?_
        refine lv_icmp_lt (tgt := 30) hx hb dX0_paired_25 (by decide) (fun c_25 => False.elim (by rcases h3 with h9 | h9 | h9 | h9; exact c_1 h9; exact c_11 h9; exact c_15 h9; exact tw_nlt h9 c_25)) (fun c_25 => ?_)
        refine lv_iconst (v := nI 0) hx hb dX0_paired_28 (by decide +kernel) ?_
        exact tw_zret hx hb hr hlocks (by decide +kernel) hK hP hD hS (rfl) dX0_paired_29
set_option maxHeartbeats 4000000 in
set_option maxRecDepth 100000 in
theorem kX0_paired_in (a : Nat) (b : Nat) (h1 : cn 0 ≤ 10) (h2 : cn 1 ≤ 10) (h3 : a < cn 0) (h4 : b < cn 1) : Ci l yX0_paired cX0_paired 5 .boolean 5 119 D vwCl (xt d) [.ref (q 0), .int (nI a), .int (nI b)] (xw q d cn lt ge gu op le fr fw bh fd cc cs) (if x_bat (x_frt lt ge gu op le 0 (cn 1) (cn 0 + 1) (fr, fw)).1 a b + x_gain lt ge gu a b + (x_bhl lt ge gu op le (cn 0) (cn 1) (cn 0 + 1) bh) (11 * (a + 1) + b + 1) = x_bat (x_frt lt ge gu op le 0 (cn 1) (cn 0 + 1) (fr, fw)).1 (cn 0) (cn 1) then nI 1 else nI 0) (xw q d cn lt ge gu op le ((x_frt lt ge gu op le 0 (cn 1) (cn 0 + 1) (fr, fw)).1) ((x_frt lt ge gu op le 0 (cn 1) (cn 0 + 1) (fr, fw)).2) (x_bhl lt ge gu op le (cn 0) (cn 1) (cn 0 + 1) bh) 0 cc cs) := by
  refine Ci.of (by decide +kernel) (Nat.le_of_ble_eq_true rfl) ?_
  intro p e s m below meth c A ls hx hb hr hlocks hml hown hts hK hP hD hS hA hl
  have hown : s.vm.findClass RX0 = some m.cls := hown
  have S : CallFix p m c cX0_paired 5 s ([.ref (q 0), .int (nI a), .int (nI b)] : List Value).toArray lw_all RX0 := ⟨hx, hb, hml, hown, hts⟩
  have hl : lv_has ls 5 [(0, .ref (q 0)), (1, .int (nI a)), (2, .int (nI b))] := hl
  refine lv_iload_n hx hb dX0_paired_0 rfl (lv_at hl 1 rfl) ?_
  refine tw_if_lt (tgt := 28) hx hb (by omega) dX0_paired_1 (by decide) ?_
  refine lv_iload_n hx hb dX0_paired_4 rfl (lv_at hl 1 rfl) ?_
  refine lv_aload_n hx hb dX0_paired_5 rfl (lv_at hl 0 rfl) ?_
  refine va_get (D := D) (ci := 0) (v := .ref (q 1)) (C := RX0) (T := TX0) (N := 12) hx hb hts in_X0 hown hK hP 0 rfl rfl 0 (by decide) (hts _ q30) (fun _ h9 => h9) rfl dX0_paired_6 ?_
  refine lv_iconst (v := nI 0) hx hb dX0_paired_9 (by decide +kernel) ?_
  refine tw_bald hx hb hK hP 1 0 rfl rfl (by omega) (by decide) dX0_paired_10 ?_
  refine tw_icmp_ge (tgt := 28) hx hb (by omega) (by omega) dX0_paired_11 (by decide) (fun c_11 => False.elim (by omega)) (fun c_11 => ?_)
  refine lv_iload_n hx hb dX0_paired_14 rfl (lv_at hl 2 rfl) ?_
  refine tw_if_lt (tgt := 28) hx hb (by omega) dX0_paired_15 (by decide) ?_
  refine lv_iload_n hx hb dX0_paired_18 rfl (lv_at hl 2 rfl) ?_
  refine lv_aload_n hx hb dX0_paired_19 rfl (lv_at hl 0 rfl) ?_
  refine va_get (D := D) (ci := 0) (v := .ref (q 1)) (C := RX0) (T := TX0) (N := 12) hx hb hts in_X0 hown hK hP 0 rfl rfl 0 (by decide) (hts _ q30) (fun _ h9 => h9) rfl dX0_paired_20 ?_
  refine lv_iconst (v := nI 1) hx hb dX0_paired_23 (by decide +kernel) ?_
  refine tw_bald hx hb hK hP 1 0 rfl rfl (by omega) (by decide) dX0_paired_24 ?_
  refine tw_icmp_lt (tgt := 30) hx hb (by omega) (by omega) dX0_paired_25 (by decide) (fun c_25 => ?_) (fun c_25 => False.elim (by omega))
  refine lv_aload_n hx hb dX0_paired_30 rfl (lv_at hl 0 rfl) ?_
  refine tw_calli (n := 0) (rest := []) (wr := []) (w' := (xw q d cn lt ge gu op le ((x_frt lt ge gu op le 0 (cn 1) (cn 0 + 1) (fr, fw)).1) ((x_frt lt ge gu op le 0 (cn 1) (cn 0 + 1) (fr, fw)).2) bh 0 cc cs)) (kX0_best l D q d cn lt ge gu op le fr fw bh fd cc cs (by omega) (by omega)) S (lw_V q122 q82 q83 q20 q84) (by decide +kernel) ⟨Nat.le_of_ble_eq_true rfl, Nat.le_of_ble_eq_true rfl⟩ hK hP hD hS hA [0, 1, 2, 3, 4, 5, 6] [] [0, 1, 2, 3, 4, 5] rfl rfl (by decide) (by decide) (fun i h => absurd h List.not_mem_nil) rfl (ci := 0) rfl (q0 := 0) rfl rfl rfl hl.1 (Nat.le_of_ble_eq_true rfl) dX0_paired_31 ⟨Nat.zero_le _, Nat.zero_le _⟩ (fun H locs hP hD hS => ?_)
  have hP : va_P D vwCl (xw q d cn lt ge gu op le ((x_frt lt ge gu op le 0 (cn 1) (cn 0 + 1) (fr, fw)).1) ((x_frt lt ge gu op le 0 (cn 1) (cn 0 + 1) (fr, fw)).2) bh 0 cc cs) H := hP
  have hD : va_D A (xw q d cn lt ge gu op le ((x_frt lt ge gu op le 0 (cn 1) (cn 0 + 1) (fr, fw)).1) ((x_frt lt ge gu op le 0 (cn 1) (cn 0 + 1) (fr, fw)).2) bh 0 cc cs) := hD
  refine lv_istore_n (lv' := [(3, .int (x_bat (x_frt lt ge gu op le 0 (cn 1) (cn 0 + 1) (fr, fw)).1 (cn 0) (cn 1))), (0, .ref (q 0)), (1, .int (nI a)), (2, .int (nI b))]) hx hb dX0_paired_34 rfl hl (by decide) rfl (fun ls hl => ?_)
  refine lv_aload_n hx hb dX0_paired_35 rfl (lv_at hl 1 rfl) ?_
  refine tw_callv (n := 0) (rest := []) (wr := []) (w' := (xw q d cn lt ge gu op le ((x_frt lt ge gu op le 0 (cn 1) (cn 0 + 1) (fr, fw)).1) ((x_frt lt ge gu op le 0 (cn 1) (cn 0 + 1) (fr, fw)).2) (x_bhl lt ge gu op le (cn 0) (cn 1) (cn 0 + 1) bh) 0 cc cs)) (kX0_fillBehind l D q d cn lt ge gu op le ((x_frt lt ge gu op le 0 (cn 1) (cn 0 + 1) (fr, fw)).1) ((x_frt lt ge gu op le 0 (cn 1) (cn 0 + 1) (fr, fw)).2) bh 0 cc cs (by omega) (by omega)) S (lw_V q131 q133 qs9 q20 q134) (by decide +kernel) ⟨Nat.le_of_ble_eq_true rfl, Nat.le_of_ble_eq_true rfl⟩ hK hP hD hS hA [0, 1, 2, 3, 4, 5, 6] [] [0, 1, 2, 3, 4, 5] rfl rfl (by decide) (by decide) (fun i h => absurd h List.not_mem_nil) rfl (ci := 0) rfl (q0 := 0) rfl rfl rfl hl.1 (Nat.le_of_ble_eq_true rfl) dX0_paired_36 ⟨Nat.zero_le _, Nat.zero_le _⟩ (fun H locs hP hD hS => ?_)
  have hP : va_P D vwCl (xw q d cn lt ge gu op le ((x_frt lt ge gu op le 0 (cn 1) (cn 0 + 1) (fr, fw)).1) ((x_frt lt ge gu op le 0 (cn 1) (cn 0 + 1) (fr, fw)).2) (x_bhl lt ge gu op le (cn 0) (cn 1) (cn 0 + 1) bh) 0 cc cs) H := hP
  have hD : va_D A (xw q d cn lt ge gu op le ((x_frt lt ge gu op le 0 (cn 1) (cn 0 + 1) (fr, fw)).1) ((x_frt lt ge gu op le 0 (cn 1) (cn 0 + 1) (fr, fw)).2) (x_bhl lt ge gu op le (cn 0) (cn 1) (cn 0 + 1) bh) 0 cc cs) := hD
  refine lv_aload_n hx hb dX0_paired_39 rfl (lv_at hl 1 rfl) ?_
  refine lv_iload_n hx hb dX0_paired_40 rfl (lv_at hl 2 rfl) ?_
  refine lv_iload_n hx hb dX0_paired_41 rfl (lv_at hl 3 rfl) ?_
  refine tw_calli (n := 2) (rest := []) (wr := []) (w' := (xw q d cn lt ge gu op le ((x_frt lt ge gu op le 0 (cn 1) (cn 0 + 1) (fr, fw)).1) ((x_frt lt ge gu op le 0 (cn 1) (cn 0 + 1) (fr, fw)).2) (x_bhl lt ge gu op le (cn 0) (cn 1) (cn 0 + 1) bh) 0 cc cs)) (kX0_bestAt l D q d cn lt ge gu op le ((x_frt lt ge gu op le 0 (cn 1) (cn 0 + 1) (fr, fw)).1) ((x_frt lt ge gu op le 0 (cn 1) (cn 0 + 1) (fr, fw)).2) (x_bhl lt ge gu op le (cn 0) (cn 1) (cn 0 + 1) bh) 0 cc cs a b (by omega) (by omega)) S (lw_V q114 q116 qs7 q20 q117) (by decide +kernel) ⟨Nat.le_of_ble_eq_true rfl, Nat.le_of_ble_eq_true rfl⟩ hK hP hD hS hA [0, 1, 2, 3, 4, 5, 6] [] [0, 1, 2, 3, 4, 5] rfl rfl (by decide) (by decide) (fun i h => absurd h List.not_mem_nil) rfl (ci := 0) rfl (q0 := 0) rfl rfl rfl hl.1 (Nat.le_of_ble_eq_true rfl) dX0_paired_42 ⟨Nat.zero_le _, Nat.zero_le _⟩ (fun H locs hP hD hS => ?_)
  have hP : va_P D vwCl (xw q d cn lt ge gu op le ((x_frt lt ge gu op le 0 (cn 1) (cn 0 + 1) (fr, fw)).1) ((x_frt lt ge gu op le 0 (cn 1) (cn 0 + 1) (fr, fw)).2) (x_bhl lt ge gu op le (cn 0) (cn 1) (cn 0 + 1) bh) 0 cc cs) H := hP
  have hD : va_D A (xw q d cn lt ge gu op le ((x_frt lt ge gu op le 0 (cn 1) (cn 0 + 1) (fr, fw)).1) ((x_frt lt ge gu op le 0 (cn 1) (cn 0 + 1) (fr, fw)).2) (x_bhl lt ge gu op le (cn 0) (cn 1) (cn 0 + 1) bh) 0 cc cs) := hD
  refine lv_istore (lv' := [(4, .int (x_bat ((x_frt lt ge gu op le 0 (cn 1) (cn 0 + 1) (fr, fw)).1) a b)), (3, .int (x_bat (x_frt lt ge gu op le 0 (cn 1) (cn 0 + 1) (fr, fw)).1 (cn 0) (cn 1))), (0, .ref (q 0)), (1, .int (nI a)), (2, .int (nI b))]) hx hb dX0_paired_45 hl (by decide) rfl (fun ls hl => ?_)
  refine lv_iload hx hb dX0_paired_47 (lv_at hl 0 rfl) ?_
  refine lv_aload_n hx hb dX0_paired_49 rfl (lv_at hl 2 rfl) ?_
  refine lv_iload_n hx hb dX0_paired_50 rfl (lv_at hl 3 rfl) ?_
  refine lv_iload_n hx hb dX0_paired_51 rfl (lv_at hl 4 rfl) ?_
  refine tw_calli (n := 2) (rest := [.int (x_bat ((x_frt lt ge gu op le 0 (cn 1) (cn 0 + 1) (fr, fw)).1) a b)]) (wr := []) (w' := (xw q d cn lt ge gu op le ((x_frt lt ge gu op le 0 (cn 1) (cn 0 + 1) (fr, fw)).1) ((x_frt lt ge gu op le 0 (cn 1) (cn 0 + 1) (fr, fw)).2) (x_bhl lt ge gu op le (cn 0) (cn 1) (cn 0 + 1) bh) 0 cc cs)) (kX0_gain l D q d cn lt ge gu op le ((x_frt lt ge gu op le 0 (cn 1) (cn 0 + 1) (fr, fw)).1) ((x_frt lt ge gu op le 0 (cn 1) (cn 0 + 1) (fr, fw)).2) (x_bhl lt ge gu op le (cn 0) (cn 1) (cn 0 + 1) bh) 0 cc cs a b (by omega) (by omega)) S (lw_V q102 q104 qs4 q20 q105) (by decide +kernel) ⟨Nat.le_of_ble_eq_true rfl, Nat.le_of_ble_eq_true rfl⟩ hK hP hD hS hA [0, 1, 2, 3, 4, 5, 6] [] [0, 1, 2, 3, 4, 5] rfl rfl (by decide) (by decide) (fun i h => absurd h List.not_mem_nil) rfl (ci := 0) rfl (q0 := 0) rfl rfl rfl hl.1 (Nat.le_of_ble_eq_true rfl) dX0_paired_52 ⟨Nat.zero_le _, Nat.zero_le _⟩ (fun H locs hP hD hS => ?_)
  have hP : va_P D vwCl (xw q d cn lt ge gu op le ((x_frt lt ge gu op le 0 (cn 1) (cn 0 + 1) (fr, fw)).1) ((x_frt lt ge gu op le 0 (cn 1) (cn 0 + 1) (fr, fw)).2) (x_bhl lt ge gu op le (cn 0) (cn 1) (cn 0 + 1) bh) 0 cc cs) H := hP
  have hD : va_D A (xw q d cn lt ge gu op le ((x_frt lt ge gu op le 0 (cn 1) (cn 0 + 1) (fr, fw)).1) ((x_frt lt ge gu op le 0 (cn 1) (cn 0 + 1) (fr, fw)).2) (x_bhl lt ge gu op le (cn 0) (cn 1) (cn 0 + 1) bh) 0 cc cs) := hD
  refine lv_iadd hx hb dX0_paired_55 ?_
  refine lv_aload_n hx hb dX0_paired_56 rfl (lv_at hl 2 rfl) ?_
  refine va_get (D := D) (ci := 0) (v := .ref (q 5)) (C := RX0) (T := TX0) (N := 12) hx hb hts in_X0 hown hK hP 0 rfl rfl 8 (by decide) (hts _ q38) (fun _ h9 => h9) rfl dX0_paired_57 ?_
  refine lv_bipush (v := nI 11) hx hb dX0_paired_60 (by decide +kernel) ?_
  refine lv_iload_n hx hb dX0_paired_62 rfl (lv_at hl 3 rfl) ?_
  refine lv_iconst (v := nI 1) hx hb dX0_paired_63 (by decide +kernel) ?_
  refine tw_iadd hx hb dX0_paired_64 ?_
  refine tw_imul hx hb dX0_paired_65 ?_
  refine lv_iload_n hx hb dX0_paired_66 rfl (lv_at hl 4 rfl) ?_
  refine tw_iadd hx hb dX0_paired_67 ?_
  refine lv_iconst (v := nI 1) hx hb dX0_paired_68 (by decide +kernel) ?_
  refine tw_iadd hx hb dX0_paired_69 ?_
  refine tw_iald hx hb hK hP 5 4 rfl rfl (by omega) (by decide) dX0_paired_70 ?_
  refine lv_iadd hx hb dX0_paired_71 ?_
  refine lv_iload_n hx hb dX0_paired_72 rfl (lv_at hl 1 rfl) ?_
  refine lv_icmp_ne (tgt := 80) hx hb dX0_paired_73 (by decide) (fun c_73 => ?_) (fun c_73 => ?_)
  · 
    refine lv_iconst (v := nI 0) hx hb dX0_paired_80 (by decide +kernel) ?_
    exact tw_zret hx hb hr hlocks (by decide +kernel) hK hP hD hS ((if_neg c_73).symm) dX0_paired_81
  · 
    refine lv_iconst (v := nI 1) hx hb dX0_paired_76 (by decide +kernel) ?_
    refine lv_goto (tgt := 81) hx hb dX0_paired_77 (by decide) ?_
    exact tw_zret hx hb hr hlocks (by decide +kernel) hK hP hD hS ((if_pos c_73).symm) dX0_paired_81
set_option maxHeartbeats 4000000 in
set_option maxRecDepth 100000 in
theorem kX0_type_bad (a : Int32) (b : Int32) (h1 : a < 0 ∨ nI 1 < a ∨ b < 0 ∨ nI 3 < b) : Ci l yX0_type cX0_type 3 .int 0 0 D vwCl (xt d) [.ref (q 0), .int a, .int b] (xw q d cn lt ge gu op le fr fw bh fd cc cs) (-1000) (xw q d cn lt ge gu op le fr fw bh fd cc cs) := by
  refine Ci.of (by decide +kernel) (Nat.le_of_ble_eq_true rfl) ?_
  intro p e s m below meth c A ls hx hb hr hlocks hml hown hts hK hP hD hS hA hl
  have hown : s.vm.findClass RX0 = some m.cls := hown
  have S : CallFix p m c cX0_type 3 s ([.ref (q 0), .int a, .int b] : List Value).toArray lw_all RX0 := ⟨hx, hb, hml, hown, hts⟩
  have hl : lv_has ls 3 [(0, .ref (q 0)), (1, .int a), (2, .int b)] := hl
  refine lv_iload_n hx hb dX0_type_0 rfl (lv_at hl 1 rfl) ?_
  refine lv_if_lt (tgt := 18) hx hb dX0_type_1 (by decide) (fun c_1 => ?_) (fun c_1 => ?_)
  · 
    refine lv_sipush (v := -1000) hx hb dX0_type_18 (by decide +kernel) ?_
    exact tw_iret hx hb hr hlocks hK hP hD hS (rfl) dX0_type_21
  · 
    refine lv_iload_n hx hb dX0_type_4 rfl (lv_at hl 1 rfl) ?_
    refine lv_iconst (v := nI 1) hx hb dX0_type_5 (by decide +kernel) ?_
    refine lv_icmp_gt (tgt := 18) hx hb dX0_type_6 (by decide) (fun c_6 => ?_) (fun c_6 => ?_)
    · 
      refine lv_sipush (v := -1000) hx hb dX0_type_18 (by decide +kernel) ?_
      exact tw_iret hx hb hr hlocks hK hP hD hS (rfl) dX0_type_21
    · 
      refine lv_iload_n hx hb dX0_type_9 rfl (lv_at hl 2 rfl) ?_
      refine lv_if_lt (tgt := 18) hx hb dX0_type_10 (by decide) (fun c_10 => ?_) (fun c_10 => ?_)
      · 
        refine lv_sipush (v := -1000) hx hb dX0_type_18 (by decide +kernel) ?_
        exact tw_iret hx hb hr hlocks hK hP hD hS (rfl) dX0_type_21
      · 
        refine lv_iload_n hx hb dX0_type_13 rfl (lv_at hl 2 rfl) ?_
        refine lv_iconst (v := nI 3) hx hb dX0_type_14 (by decide +kernel) ?_
        refine lv_icmp_le (tgt := 22) hx hb dX0_type_15 (by decide) (fun c_15 => False.elim (by rcases h1 with h9 | h9 | h9 | h9; exact c_1 h9; exact c_6 h9; exact c_10 h9; exact tw_nle h9 c_15)) (fun c_15 => ?_)
        refine lv_sipush (v := -1000) hx hb dX0_type_18 (by decide +kernel) ?_
        exact tw_iret hx hb hr hlocks hK hP hD hS (rfl) dX0_type_21
set_option maxHeartbeats 4000000 in
set_option maxRecDepth 100000 in
theorem kX0_type_full (a : Nat) (b : Nat) (h1 : a < 2) (h2 : b < 4) (h3 : cn a = 10) : Ci l yX0_type cX0_type 3 .int 0 0 D vwCl (xt d) [.ref (q 0), .int (nI a), .int (nI b)] (xw q d cn lt ge gu op le fr fw bh fd cc cs) (-1001) (xw q d cn lt ge gu op le fr fw bh fd cc cs) := by
  refine Ci.of (by decide +kernel) (Nat.le_of_ble_eq_true rfl) ?_
  intro p e s m below meth c A ls hx hb hr hlocks hml hown hts hK hP hD hS hA hl
  have hown : s.vm.findClass RX0 = some m.cls := hown
  have S : CallFix p m c cX0_type 3 s ([.ref (q 0), .int (nI a), .int (nI b)] : List Value).toArray lw_all RX0 := ⟨hx, hb, hml, hown, hts⟩
  have hl : lv_has ls 3 [(0, .ref (q 0)), (1, .int (nI a)), (2, .int (nI b))] := hl
  refine lv_iload_n hx hb dX0_type_0 rfl (lv_at hl 1 rfl) ?_
  refine tw_if_lt (tgt := 18) hx hb (by omega) dX0_type_1 (by decide) ?_
  refine lv_iload_n hx hb dX0_type_4 rfl (lv_at hl 1 rfl) ?_
  refine lv_iconst (v := nI 1) hx hb dX0_type_5 (by decide +kernel) ?_
  refine tw_icmp_gt (tgt := 18) hx hb (by omega) (by omega) dX0_type_6 (by decide) (fun c_6 => False.elim (by omega)) (fun c_6 => ?_)
  refine lv_iload_n hx hb dX0_type_9 rfl (lv_at hl 2 rfl) ?_
  refine tw_if_lt (tgt := 18) hx hb (by omega) dX0_type_10 (by decide) ?_
  refine lv_iload_n hx hb dX0_type_13 rfl (lv_at hl 2 rfl) ?_
  refine lv_iconst (v := nI 3) hx hb dX0_type_14 (by decide +kernel) ?_
  refine tw_icmp_le (tgt := 22) hx hb (by omega) (by omega) dX0_type_15 (by decide) (fun c_15 => ?_) (fun c_15 => False.elim (by omega))
  refine lv_aload_n hx hb dX0_type_22 rfl (lv_at hl 0 rfl) ?_
  refine va_get (D := D) (ci := 0) (v := .ref (q 1)) (C := RX0) (T := TX0) (N := 12) hx hb hts in_X0 hown hK hP 0 rfl rfl 0 (by decide) (hts _ q30) (fun _ h9 => h9) rfl dX0_type_23 ?_
  refine lv_iload_n hx hb dX0_type_26 rfl (lv_at hl 1 rfl) ?_
  refine tw_bald hx hb hK hP 1 0 rfl rfl (by omega) (by decide) dX0_type_27 ?_
  refine lv_bipush (v := nI 10) hx hb dX0_type_28 (by decide +kernel) ?_
  refine tw_icmp_lt (tgt := 37) hx hb (by omega) (by omega) dX0_type_30 (by decide) (fun c_30 => False.elim (by omega)) (fun c_30 => ?_)
  refine lv_sipush (v := -1001) hx hb dX0_type_33 (by decide +kernel) ?_
  exact tw_iret hx hb hr hlocks hK hP hD hS (rfl) dX0_type_36
set_option maxHeartbeats 4000000 in
set_option maxRecDepth 100000 in
theorem kX0_type_ok (a : Nat) (b : Nat) (h1 : a < 2) (h2 : b < 4) (h3 : cn a < 10) : Ci l yX0_type cX0_type 3 .int 0 0 D vwCl (xt d) [.ref (q 0), .int (nI a), .int (nI b)] (xw q d cn lt ge gu op le fr fw bh fd cc cs) (nI (cn a + 1)) (xw q d (tw_un cn a (cn a + 1)) (upd lt (10 * a + cn a) (nI b)) ge gu op le fr fw bh fd cc cs) := by
  refine Ci.of (by decide +kernel) (Nat.le_of_ble_eq_true rfl) ?_
  intro p e s m below meth c A ls hx hb hr hlocks hml hown hts hK hP hD hS hA hl
  have hown : s.vm.findClass RX0 = some m.cls := hown
  have S : CallFix p m c cX0_type 3 s ([.ref (q 0), .int (nI a), .int (nI b)] : List Value).toArray lw_all RX0 := ⟨hx, hb, hml, hown, hts⟩
  have hl : lv_has ls 3 [(0, .ref (q 0)), (1, .int (nI a)), (2, .int (nI b))] := hl
  refine lv_iload_n hx hb dX0_type_0 rfl (lv_at hl 1 rfl) ?_
  refine tw_if_lt (tgt := 18) hx hb (by omega) dX0_type_1 (by decide) ?_
  refine lv_iload_n hx hb dX0_type_4 rfl (lv_at hl 1 rfl) ?_
  refine lv_iconst (v := nI 1) hx hb dX0_type_5 (by decide +kernel) ?_
  refine tw_icmp_gt (tgt := 18) hx hb (by omega) (by omega) dX0_type_6 (by decide) (fun c_6 => False.elim (by omega)) (fun c_6 => ?_)
  refine lv_iload_n hx hb dX0_type_9 rfl (lv_at hl 2 rfl) ?_
  refine tw_if_lt (tgt := 18) hx hb (by omega) dX0_type_10 (by decide) ?_
  refine lv_iload_n hx hb dX0_type_13 rfl (lv_at hl 2 rfl) ?_
  refine lv_iconst (v := nI 3) hx hb dX0_type_14 (by decide +kernel) ?_
  refine tw_icmp_le (tgt := 22) hx hb (by omega) (by omega) dX0_type_15 (by decide) (fun c_15 => ?_) (fun c_15 => False.elim (by omega))
  refine lv_aload_n hx hb dX0_type_22 rfl (lv_at hl 0 rfl) ?_
  refine va_get (D := D) (ci := 0) (v := .ref (q 1)) (C := RX0) (T := TX0) (N := 12) hx hb hts in_X0 hown hK hP 0 rfl rfl 0 (by decide) (hts _ q30) (fun _ h9 => h9) rfl dX0_type_23 ?_
  refine lv_iload_n hx hb dX0_type_26 rfl (lv_at hl 1 rfl) ?_
  refine tw_bald hx hb hK hP 1 0 rfl rfl (by omega) (by decide) dX0_type_27 ?_
  refine lv_bipush (v := nI 10) hx hb dX0_type_28 (by decide +kernel) ?_
  refine tw_icmp_lt (tgt := 37) hx hb (by omega) (by omega) dX0_type_30 (by decide) (fun c_30 => ?_) (fun c_30 => False.elim (by omega))
  refine lv_aload_n hx hb dX0_type_37 rfl (lv_at hl 0 rfl) ?_
  refine va_get (D := D) (ci := 0) (v := .ref (q 2)) (C := RX0) (T := TX0) (N := 12) hx hb hts in_X0 hown hK hP 0 rfl rfl 1 (by decide) (hts _ q31) (fun _ h9 => h9) rfl dX0_type_38 ?_
  refine lv_bipush (v := nI 10) hx hb dX0_type_41 (by decide +kernel) ?_
  refine lv_iload_n hx hb dX0_type_43 rfl (lv_at hl 1 rfl) ?_
  refine tw_imul hx hb dX0_type_44 ?_
  refine lv_aload_n hx hb dX0_type_45 rfl (lv_at hl 0 rfl) ?_
  refine va_get (D := D) (ci := 0) (v := .ref (q 1)) (C := RX0) (T := TX0) (N := 12) hx hb hts in_X0 hown hK hP 0 rfl rfl 0 (by decide) (hts _ q30) (fun _ h9 => h9) rfl dX0_type_46 ?_
  refine lv_iload_n hx hb dX0_type_49 rfl (lv_at hl 1 rfl) ?_
  refine tw_bald hx hb hK hP 1 0 rfl rfl (by omega) (by decide) dX0_type_50 ?_
  refine tw_iadd hx hb dX0_type_51 ?_
  refine lv_iload_n hx hb dX0_type_52 rfl (lv_at hl 2 rfl) ?_
  refine lv_i2b (v := nI b) hx hb dX0_type_53 (tw_byte2 (by omega)) ?_
  refine tw_bast hx hb hK hP hD hS 2 1 rfl rfl (by omega) (by decide) (tw_byte (by omega)) dX0_type_54 (fun H locs hP hD hS => ?_)
  have hP : va_P D vwCl (xw q d cn (upd lt (10 * a + cn a) (nI b)) ge gu op le fr fw bh fd cc cs) H := hP
  have hD : va_D A (xw q d cn (upd lt (10 * a + cn a) (nI b)) ge gu op le fr fw bh fd cc cs) := hD
  refine lv_aload_n hx hb dX0_type_55 rfl (lv_at hl 0 rfl) ?_
  refine va_get (D := D) (ci := 0) (v := .ref (q 1)) (C := RX0) (T := TX0) (N := 12) hx hb hts in_X0 hown hK hP 0 rfl rfl 0 (by decide) (hts _ q30) (fun _ h9 => h9) rfl dX0_type_56 ?_
  refine lv_iload_n hx hb dX0_type_59 rfl (lv_at hl 1 rfl) ?_
  refine lv_dup2_11 hx hb dX0_type_60 rfl rfl ?_
  refine tw_bald hx hb hK hP 1 0 rfl rfl (by omega) (by decide) dX0_type_61 ?_
  refine lv_iconst (v := nI 1) hx hb dX0_type_62 (by decide +kernel) ?_
  refine tw_iadd hx hb dX0_type_63 ?_
  refine lv_i2b (v := nI (cn a + 1)) hx hb dX0_type_64 (tw_byte2 (by omega)) ?_
  refine tw_bast hx hb hK hP hD hS 1 0 rfl rfl (by omega) (by decide) (tw_byte (by omega)) dX0_type_65 (fun H locs hP hD hS => ?_)
  rw [tw_updN] at hP hD
  have hP : va_P D vwCl (xw q d (tw_un cn a (cn a + 1)) (upd lt (10 * a + cn a) (nI b)) ge gu op le fr fw bh fd cc cs) H := hP
  have hD : va_D A (xw q d (tw_un cn a (cn a + 1)) (upd lt (10 * a + cn a) (nI b)) ge gu op le fr fw bh fd cc cs) := hD
  refine lv_aload_n hx hb dX0_type_66 rfl (lv_at hl 0 rfl) ?_
  refine va_get (D := D) (ci := 0) (v := .ref (q 1)) (C := RX0) (T := TX0) (N := 12) hx hb hts in_X0 hown hK hP 0 rfl rfl 0 (by decide) (hts _ q30) (fun _ h9 => h9) rfl dX0_type_67 ?_
  refine lv_iload_n hx hb dX0_type_70 rfl (lv_at hl 1 rfl) ?_
  refine tw_bald hx hb hK hP 1 0 rfl rfl (by omega) (by decide) dX0_type_71 ?_
  exact tw_iret hx hb hr hlocks hK hP hD hS (by simp [tw_un]) dX0_type_72
set_option maxHeartbeats 4000000 in
set_option maxRecDepth 100000 in
theorem kX0_wipe_bad (a : Int32) (h1 : a < 0 ∨ nI 1 < a) : Ci l yX0_wipe cX0_wipe 3 .int 0 0 D vwCl (xt d) [.ref (q 0), .int a] (xw q d cn lt ge gu op le fr fw bh fd cc cs) (-1000) (xw q d cn lt ge gu op le fr fw bh fd cc cs) := by
  refine Ci.of (by decide +kernel) (Nat.le_of_ble_eq_true rfl) ?_
  intro p e s m below meth c A ls hx hb hr hlocks hml hown hts hK hP hD hS hA hl
  have hown : s.vm.findClass RX0 = some m.cls := hown
  have S : CallFix p m c cX0_wipe 3 s ([.ref (q 0), .int a] : List Value).toArray lw_all RX0 := ⟨hx, hb, hml, hown, hts⟩
  have hl : lv_has ls 3 [(0, .ref (q 0)), (1, .int a)] := hl
  refine lv_iload_n hx hb dX0_wipe_0 rfl (lv_at hl 1 rfl) ?_
  refine lv_if_lt (tgt := 9) hx hb dX0_wipe_1 (by decide) (fun c_1 => ?_) (fun c_1 => ?_)
  · 
    refine lv_sipush (v := -1000) hx hb dX0_wipe_9 (by decide +kernel) ?_
    exact tw_iret hx hb hr hlocks hK hP hD hS (rfl) dX0_wipe_12
  · 
    refine lv_iload_n hx hb dX0_wipe_4 rfl (lv_at hl 1 rfl) ?_
    refine lv_iconst (v := nI 1) hx hb dX0_wipe_5 (by decide +kernel) ?_
    refine lv_icmp_le (tgt := 13) hx hb dX0_wipe_6 (by decide) (fun c_6 => False.elim (by rcases h1 with h9 | h9; exact c_1 h9; exact tw_nle h9 c_6)) (fun c_6 => ?_)
    refine lv_sipush (v := -1000) hx hb dX0_wipe_9 (by decide +kernel) ?_
    exact tw_iret hx hb hr hlocks hK hP hD hS (rfl) dX0_wipe_12
set_option maxHeartbeats 4000000 in
set_option maxRecDepth 100000 in
theorem kX0_wipe_ok (a : Nat) (h1 : a < 2) : Ci l yX0_wipe cX0_wipe 3 .int 0 0 D vwCl (xt d) [.ref (q 0), .int (nI a)] (xw q d cn lt ge gu op le fr fw bh fd cc cs) (nI (cn a)) (xw q d (tw_un cn a 0) lt ge gu op le fr fw bh fd cc cs) := by
  refine Ci.of (by decide +kernel) (Nat.le_of_ble_eq_true rfl) ?_
  intro p e s m below meth c A ls hx hb hr hlocks hml hown hts hK hP hD hS hA hl
  have hown : s.vm.findClass RX0 = some m.cls := hown
  have S : CallFix p m c cX0_wipe 3 s ([.ref (q 0), .int (nI a)] : List Value).toArray lw_all RX0 := ⟨hx, hb, hml, hown, hts⟩
  have hl : lv_has ls 3 [(0, .ref (q 0)), (1, .int (nI a))] := hl
  refine lv_iload_n hx hb dX0_wipe_0 rfl (lv_at hl 1 rfl) ?_
  refine tw_if_lt (tgt := 9) hx hb (by omega) dX0_wipe_1 (by decide) ?_
  refine lv_iload_n hx hb dX0_wipe_4 rfl (lv_at hl 1 rfl) ?_
  refine lv_iconst (v := nI 1) hx hb dX0_wipe_5 (by decide +kernel) ?_
  refine tw_icmp_le (tgt := 13) hx hb (by omega) (by omega) dX0_wipe_6 (by decide) (fun c_6 => ?_) (fun c_6 => False.elim (by omega))
  refine lv_aload_n hx hb dX0_wipe_13 rfl (lv_at hl 0 rfl) ?_
  refine va_get (D := D) (ci := 0) (v := .ref (q 1)) (C := RX0) (T := TX0) (N := 12) hx hb hts in_X0 hown hK hP 0 rfl rfl 0 (by decide) (hts _ q30) (fun _ h9 => h9) rfl dX0_wipe_14 ?_
  refine lv_iload_n hx hb dX0_wipe_17 rfl (lv_at hl 1 rfl) ?_
  refine tw_bald hx hb hK hP 1 0 rfl rfl (by omega) (by decide) dX0_wipe_18 ?_
  refine lv_istore_n (lv' := [(2, .int (nI (cn a))), (0, .ref (q 0)), (1, .int (nI a))]) hx hb dX0_wipe_19 rfl hl (by decide) rfl (fun ls hl => ?_)
  refine lv_aload_n hx hb dX0_wipe_20 rfl (lv_at hl 1 rfl) ?_
  refine va_get (D := D) (ci := 0) (v := .ref (q 1)) (C := RX0) (T := TX0) (N := 12) hx hb hts in_X0 hown hK hP 0 rfl rfl 0 (by decide) (hts _ q30) (fun _ h9 => h9) rfl dX0_wipe_21 ?_
  refine lv_iload_n hx hb dX0_wipe_24 rfl (lv_at hl 2 rfl) ?_
  refine lv_iconst (v := nI 0) hx hb dX0_wipe_25 (by decide +kernel) ?_
  refine tw_bast hx hb hK hP hD hS 1 0 rfl rfl (by omega) (by decide) (tw_byte (by omega)) dX0_wipe_26 (fun H locs hP hD hS => ?_)
  rw [tw_updN] at hP hD
  have hP : va_P D vwCl (xw q d (tw_un cn a 0) lt ge gu op le fr fw bh fd cc cs) H := hP
  have hD : va_D A (xw q d (tw_un cn a 0) lt ge gu op le fr fw bh fd cc cs) := hD
  refine lv_iload_n hx hb dX0_wipe_27 rfl (lv_at hl 0 rfl) ?_
  exact tw_iret hx hb hr hlocks hK hP hD hS (rfl) dX0_wipe_28
set_option maxHeartbeats 4000000 in
set_option maxRecDepth 100000 in
theorem kX0_rules_bad (a : Int32) (b : Int32) (o : Int32) (t : Int32) (h1 : a < -9 ∨ nI 9 < a ∨ b < -9 ∨ nI 9 < b ∨ o < 0 ∨ nI 9 < o ∨ t < 0 ∨ nI 9 < t) : Ci l yX0_rules cX0_rules 5 .boolean 0 0 D vwCl (xt d) [.ref (q 0), .int a, .int b, .int o, .int t] (xw q d cn lt ge gu op le fr fw bh fd cc cs) (nI 0) (xw q d cn lt ge gu op le fr fw bh fd cc cs) := by
  refine Ci.of (by decide +kernel) (Nat.le_of_ble_eq_true rfl) ?_
  intro p e s m below meth c A ls hx hb hr hlocks hml hown hts hK hP hD hS hA hl
  have hown : s.vm.findClass RX0 = some m.cls := hown
  have S : CallFix p m c cX0_rules 5 s ([.ref (q 0), .int a, .int b, .int o, .int t] : List Value).toArray lw_all RX0 := ⟨hx, hb, hml, hown, hts⟩
  have hl : lv_has ls 5 [(0, .ref (q 0)), (1, .int a), (2, .int b), (3, .int o), (4, .int t)] := hl
  by_cases a1 : a < -9
  · 
    refine lv_iload_n hx hb dX0_rules_0 rfl (lv_at hl 1 rfl) ?_
    refine lv_bipush (v := -9) hx hb dX0_rules_1 (by decide +kernel) ?_
    refine lv_icmp_lt (tgt := 24) hx hb dX0_rules_3 (by decide) (fun c_3 => ?_) (fun c_3 => False.elim (c_3 a1))
    refine lv_iconst (v := nI 0) hx hb dX0_rules_24 (by decide +kernel) ?_
    exact tw_zret hx hb hr hlocks (by decide +kernel) hK hP hD hS (rfl) dX0_rules_25
  · 
    by_cases a2 : nI 9 < a
    · 
      refine lv_iload_n hx hb dX0_rules_0 rfl (lv_at hl 1 rfl) ?_
      refine lv_bipush (v := -9) hx hb dX0_rules_1 (by decide +kernel) ?_
      refine lv_icmp_lt (tgt := 24) hx hb dX0_rules_3 (by decide) (fun c_3 => False.elim (a1 c_3)) (fun c_3 => ?_)
      refine lv_iload_n hx hb dX0_rules_6 rfl (lv_at hl 1 rfl) ?_
      refine lv_bipush (v := nI 9) hx hb dX0_rules_7 (by decide +kernel) ?_
      refine lv_icmp_gt (tgt := 24) hx hb dX0_rules_9 (by decide) (fun c_9 => ?_) (fun c_9 => False.elim (c_9 a2))
      refine lv_iconst (v := nI 0) hx hb dX0_rules_24 (by decide +kernel) ?_
      exact tw_zret hx hb hr hlocks (by decide +kernel) hK hP hD hS (rfl) dX0_rules_25
    · 
      by_cases a3 : b < -9
      · 
        refine lv_iload_n hx hb dX0_rules_0 rfl (lv_at hl 1 rfl) ?_
        refine lv_bipush (v := -9) hx hb dX0_rules_1 (by decide +kernel) ?_
        refine lv_icmp_lt (tgt := 24) hx hb dX0_rules_3 (by decide) (fun c_3 => False.elim (a1 c_3)) (fun c_3 => ?_)
        refine lv_iload_n hx hb dX0_rules_6 rfl (lv_at hl 1 rfl) ?_
        refine lv_bipush (v := nI 9) hx hb dX0_rules_7 (by decide +kernel) ?_
        refine lv_icmp_gt (tgt := 24) hx hb dX0_rules_9 (by decide) (fun c_9 => False.elim (a2 c_9)) (fun c_9 => ?_)
        refine lv_iload_n hx hb dX0_rules_12 rfl (lv_at hl 2 rfl) ?_
        refine lv_bipush (v := -9) hx hb dX0_rules_13 (by decide +kernel) ?_
        refine lv_icmp_lt (tgt := 24) hx hb dX0_rules_15 (by decide) (fun c_15 => ?_) (fun c_15 => False.elim (c_15 a3))
        refine lv_iconst (v := nI 0) hx hb dX0_rules_24 (by decide +kernel) ?_
        exact tw_zret hx hb hr hlocks (by decide +kernel) hK hP hD hS (rfl) dX0_rules_25
      · 
        by_cases a4 : nI 9 < b
        · 
          refine lv_iload_n hx hb dX0_rules_0 rfl (lv_at hl 1 rfl) ?_
          refine lv_bipush (v := -9) hx hb dX0_rules_1 (by decide +kernel) ?_
          refine lv_icmp_lt (tgt := 24) hx hb dX0_rules_3 (by decide) (fun c_3 => False.elim (a1 c_3)) (fun c_3 => ?_)
          refine lv_iload_n hx hb dX0_rules_6 rfl (lv_at hl 1 rfl) ?_
          refine lv_bipush (v := nI 9) hx hb dX0_rules_7 (by decide +kernel) ?_
          refine lv_icmp_gt (tgt := 24) hx hb dX0_rules_9 (by decide) (fun c_9 => False.elim (a2 c_9)) (fun c_9 => ?_)
          refine lv_iload_n hx hb dX0_rules_12 rfl (lv_at hl 2 rfl) ?_
          refine lv_bipush (v := -9) hx hb dX0_rules_13 (by decide +kernel) ?_
          refine lv_icmp_lt (tgt := 24) hx hb dX0_rules_15 (by decide) (fun c_15 => False.elim (a3 c_15)) (fun c_15 => ?_)
          refine lv_iload_n hx hb dX0_rules_18 rfl (lv_at hl 2 rfl) ?_
          refine lv_bipush (v := nI 9) hx hb dX0_rules_19 (by decide +kernel) ?_
          refine lv_icmp_le (tgt := 26) hx hb dX0_rules_21 (by decide) (fun c_21 => False.elim (tw_nle a4 c_21)) (fun c_21 => ?_)
          refine lv_iconst (v := nI 0) hx hb dX0_rules_24 (by decide +kernel) ?_
          exact tw_zret hx hb hr hlocks (by decide +kernel) hK hP hD hS (rfl) dX0_rules_25
        · 
          by_cases a5 : o < 0
          · 
            refine lv_iload_n hx hb dX0_rules_0 rfl (lv_at hl 1 rfl) ?_
            refine lv_bipush (v := -9) hx hb dX0_rules_1 (by decide +kernel) ?_
            refine lv_icmp_lt (tgt := 24) hx hb dX0_rules_3 (by decide) (fun c_3 => False.elim (a1 c_3)) (fun c_3 => ?_)
            refine lv_iload_n hx hb dX0_rules_6 rfl (lv_at hl 1 rfl) ?_
            refine lv_bipush (v := nI 9) hx hb dX0_rules_7 (by decide +kernel) ?_
            refine lv_icmp_gt (tgt := 24) hx hb dX0_rules_9 (by decide) (fun c_9 => False.elim (a2 c_9)) (fun c_9 => ?_)
            refine lv_iload_n hx hb dX0_rules_12 rfl (lv_at hl 2 rfl) ?_
            refine lv_bipush (v := -9) hx hb dX0_rules_13 (by decide +kernel) ?_
            refine lv_icmp_lt (tgt := 24) hx hb dX0_rules_15 (by decide) (fun c_15 => False.elim (a3 c_15)) (fun c_15 => ?_)
            refine lv_iload_n hx hb dX0_rules_18 rfl (lv_at hl 2 rfl) ?_
            refine lv_bipush (v := nI 9) hx hb dX0_rules_19 (by decide +kernel) ?_
            refine lv_icmp_le (tgt := 26) hx hb dX0_rules_21 (by decide) (fun c_21 => ?_) (fun c_21 => False.elim (c_21 (tw_le_of a4)))
            refine lv_iload_n hx hb dX0_rules_26 rfl (lv_at hl 3 rfl) ?_
            refine lv_if_lt (tgt := 48) hx hb dX0_rules_27 (by decide) (fun c_27 => ?_) (fun c_27 => False.elim (c_27 a5))
            refine lv_iconst (v := nI 0) hx hb dX0_rules_48 (by decide +kernel) ?_
            exact tw_zret hx hb hr hlocks (by decide +kernel) hK hP hD hS (rfl) dX0_rules_49
          · 
            by_cases a6 : nI 9 < o
            · 
              refine lv_iload_n hx hb dX0_rules_0 rfl (lv_at hl 1 rfl) ?_
              refine lv_bipush (v := -9) hx hb dX0_rules_1 (by decide +kernel) ?_
              refine lv_icmp_lt (tgt := 24) hx hb dX0_rules_3 (by decide) (fun c_3 => False.elim (a1 c_3)) (fun c_3 => ?_)
              refine lv_iload_n hx hb dX0_rules_6 rfl (lv_at hl 1 rfl) ?_
              refine lv_bipush (v := nI 9) hx hb dX0_rules_7 (by decide +kernel) ?_
              refine lv_icmp_gt (tgt := 24) hx hb dX0_rules_9 (by decide) (fun c_9 => False.elim (a2 c_9)) (fun c_9 => ?_)
              refine lv_iload_n hx hb dX0_rules_12 rfl (lv_at hl 2 rfl) ?_
              refine lv_bipush (v := -9) hx hb dX0_rules_13 (by decide +kernel) ?_
              refine lv_icmp_lt (tgt := 24) hx hb dX0_rules_15 (by decide) (fun c_15 => False.elim (a3 c_15)) (fun c_15 => ?_)
              refine lv_iload_n hx hb dX0_rules_18 rfl (lv_at hl 2 rfl) ?_
              refine lv_bipush (v := nI 9) hx hb dX0_rules_19 (by decide +kernel) ?_
              refine lv_icmp_le (tgt := 26) hx hb dX0_rules_21 (by decide) (fun c_21 => ?_) (fun c_21 => False.elim (c_21 (tw_le_of a4)))
              refine lv_iload_n hx hb dX0_rules_26 rfl (lv_at hl 3 rfl) ?_
              refine lv_if_lt (tgt := 48) hx hb dX0_rules_27 (by decide) (fun c_27 => False.elim (a5 c_27)) (fun c_27 => ?_)
              refine lv_iload_n hx hb dX0_rules_30 rfl (lv_at hl 3 rfl) ?_
              refine lv_bipush (v := nI 9) hx hb dX0_rules_31 (by decide +kernel) ?_
              refine lv_icmp_gt (tgt := 48) hx hb dX0_rules_33 (by decide) (fun c_33 => ?_) (fun c_33 => False.elim (c_33 a6))
              refine lv_iconst (v := nI 0) hx hb dX0_rules_48 (by decide +kernel) ?_
              exact tw_zret hx hb hr hlocks (by decide +kernel) hK hP hD hS (rfl) dX0_rules_49
            · 
              by_cases a7 : t < 0
              · 
                refine lv_iload_n hx hb dX0_rules_0 rfl (lv_at hl 1 rfl) ?_
                refine lv_bipush (v := -9) hx hb dX0_rules_1 (by decide +kernel) ?_
                refine lv_icmp_lt (tgt := 24) hx hb dX0_rules_3 (by decide) (fun c_3 => False.elim (a1 c_3)) (fun c_3 => ?_)
                refine lv_iload_n hx hb dX0_rules_6 rfl (lv_at hl 1 rfl) ?_
                refine lv_bipush (v := nI 9) hx hb dX0_rules_7 (by decide +kernel) ?_
                refine lv_icmp_gt (tgt := 24) hx hb dX0_rules_9 (by decide) (fun c_9 => False.elim (a2 c_9)) (fun c_9 => ?_)
                refine lv_iload_n hx hb dX0_rules_12 rfl (lv_at hl 2 rfl) ?_
                refine lv_bipush (v := -9) hx hb dX0_rules_13 (by decide +kernel) ?_
                refine lv_icmp_lt (tgt := 24) hx hb dX0_rules_15 (by decide) (fun c_15 => False.elim (a3 c_15)) (fun c_15 => ?_)
                refine lv_iload_n hx hb dX0_rules_18 rfl (lv_at hl 2 rfl) ?_
                refine lv_bipush (v := nI 9) hx hb dX0_rules_19 (by decide +kernel) ?_
                refine lv_icmp_le (tgt := 26) hx hb dX0_rules_21 (by decide) (fun c_21 => ?_) (fun c_21 => False.elim (c_21 (tw_le_of a4)))
                refine lv_iload_n hx hb dX0_rules_26 rfl (lv_at hl 3 rfl) ?_
                refine lv_if_lt (tgt := 48) hx hb dX0_rules_27 (by decide) (fun c_27 => False.elim (a5 c_27)) (fun c_27 => ?_)
                refine lv_iload_n hx hb dX0_rules_30 rfl (lv_at hl 3 rfl) ?_
                refine lv_bipush (v := nI 9) hx hb dX0_rules_31 (by decide +kernel) ?_
                refine lv_icmp_gt (tgt := 48) hx hb dX0_rules_33 (by decide) (fun c_33 => False.elim (a6 c_33)) (fun c_33 => ?_)
                refine lv_iload hx hb dX0_rules_36 (lv_at hl 4 rfl) ?_
                refine lv_if_lt (tgt := 48) hx hb dX0_rules_38 (by decide) (fun c_38 => ?_) (fun c_38 => False.elim (c_38 a7))
                refine lv_iconst (v := nI 0) hx hb dX0_rules_48 (by decide +kernel) ?_
                exact tw_zret hx hb hr hlocks (by decide +kernel) hK hP hD hS (rfl) dX0_rules_49
              · 
                have a8 : nI 9 < t := by
                  rcases h1 with h9 | h9 | h9 | h9 | h9 | h9 | h9 | h9
                  · exact absurd h9 a1
                  · exact absurd h9 a2
                  · exact absurd h9 a3
                  · exact absurd h9 a4
                  · exact absurd h9 a5
                  · exact absurd h9 a6
                  · exact absurd h9 a7
                  · exact h9
                refine lv_iload_n hx hb dX0_rules_0 rfl (lv_at hl 1 rfl) ?_
                refine lv_bipush (v := -9) hx hb dX0_rules_1 (by decide +kernel) ?_
                refine lv_icmp_lt (tgt := 24) hx hb dX0_rules_3 (by decide) (fun c_3 => False.elim (a1 c_3)) (fun c_3 => ?_)
                refine lv_iload_n hx hb dX0_rules_6 rfl (lv_at hl 1 rfl) ?_
                refine lv_bipush (v := nI 9) hx hb dX0_rules_7 (by decide +kernel) ?_
                refine lv_icmp_gt (tgt := 24) hx hb dX0_rules_9 (by decide) (fun c_9 => False.elim (a2 c_9)) (fun c_9 => ?_)
                refine lv_iload_n hx hb dX0_rules_12 rfl (lv_at hl 2 rfl) ?_
                refine lv_bipush (v := -9) hx hb dX0_rules_13 (by decide +kernel) ?_
                refine lv_icmp_lt (tgt := 24) hx hb dX0_rules_15 (by decide) (fun c_15 => False.elim (a3 c_15)) (fun c_15 => ?_)
                refine lv_iload_n hx hb dX0_rules_18 rfl (lv_at hl 2 rfl) ?_
                refine lv_bipush (v := nI 9) hx hb dX0_rules_19 (by decide +kernel) ?_
                refine lv_icmp_le (tgt := 26) hx hb dX0_rules_21 (by decide) (fun c_21 => ?_) (fun c_21 => False.elim (c_21 (tw_le_of a4)))
                refine lv_iload_n hx hb dX0_rules_26 rfl (lv_at hl 3 rfl) ?_
                refine lv_if_lt (tgt := 48) hx hb dX0_rules_27 (by decide) (fun c_27 => False.elim (a5 c_27)) (fun c_27 => ?_)
                refine lv_iload_n hx hb dX0_rules_30 rfl (lv_at hl 3 rfl) ?_
                refine lv_bipush (v := nI 9) hx hb dX0_rules_31 (by decide +kernel) ?_
                refine lv_icmp_gt (tgt := 48) hx hb dX0_rules_33 (by decide) (fun c_33 => False.elim (a6 c_33)) (fun c_33 => ?_)
                refine lv_iload hx hb dX0_rules_36 (lv_at hl 4 rfl) ?_
                refine lv_if_lt (tgt := 48) hx hb dX0_rules_38 (by decide) (fun c_38 => False.elim (a7 c_38)) (fun c_38 => ?_)
                refine lv_iload hx hb dX0_rules_41 (lv_at hl 4 rfl) ?_
                refine lv_bipush (v := nI 9) hx hb dX0_rules_43 (by decide +kernel) ?_
                refine lv_icmp_le (tgt := 50) hx hb dX0_rules_45 (by decide) (fun c_45 => False.elim (tw_nle a8 c_45)) (fun c_45 => ?_)
                refine lv_iconst (v := nI 0) hx hb dX0_rules_48 (by decide +kernel) ?_
                exact tw_zret hx hb hr hlocks (by decide +kernel) hK hP hD hS (rfl) dX0_rules_49
set_option maxHeartbeats 4000000 in
set_option maxRecDepth 100000 in
theorem kX0_rules_ok (a : Int32) (b : Int32) (o : Int32) (t : Int32) (h1 : ¬ a < -9) (h2 : ¬ nI 9 < a) (h3 : ¬ b < -9) (h4 : ¬ nI 9 < b) (h5 : ¬ o < 0) (h6 : ¬ nI 9 < o) (h7 : ¬ t < 0) (h8 : ¬ nI 9 < t) : Ci l yX0_rules cX0_rules 5 .boolean 0 0 D vwCl (xt d) [.ref (q 0), .int a, .int b, .int o, .int t] (xw q d cn lt ge gu op le fr fw bh fd cc cs) (nI 1) (xw q d cn lt a b o t fr fw bh fd cc cs) := by
  refine Ci.of (by decide +kernel) (Nat.le_of_ble_eq_true rfl) ?_
  intro p e s m below meth c A ls hx hb hr hlocks hml hown hts hK hP hD hS hA hl
  have hown : s.vm.findClass RX0 = some m.cls := hown
  have S : CallFix p m c cX0_rules 5 s ([.ref (q 0), .int a, .int b, .int o, .int t] : List Value).toArray lw_all RX0 := ⟨hx, hb, hml, hown, hts⟩
  have hl : lv_has ls 5 [(0, .ref (q 0)), (1, .int a), (2, .int b), (3, .int o), (4, .int t)] := hl
  refine lv_iload_n hx hb dX0_rules_0 rfl (lv_at hl 1 rfl) ?_
  refine lv_bipush (v := -9) hx hb dX0_rules_1 (by decide +kernel) ?_
  refine lv_icmp_lt (tgt := 24) hx hb dX0_rules_3 (by decide) (fun c_3 => False.elim (h1 c_3)) (fun c_3 => ?_)
  refine lv_iload_n hx hb dX0_rules_6 rfl (lv_at hl 1 rfl) ?_
  refine lv_bipush (v := nI 9) hx hb dX0_rules_7 (by decide +kernel) ?_
  refine lv_icmp_gt (tgt := 24) hx hb dX0_rules_9 (by decide) (fun c_9 => False.elim (h2 c_9)) (fun c_9 => ?_)
  refine lv_iload_n hx hb dX0_rules_12 rfl (lv_at hl 2 rfl) ?_
  refine lv_bipush (v := -9) hx hb dX0_rules_13 (by decide +kernel) ?_
  refine lv_icmp_lt (tgt := 24) hx hb dX0_rules_15 (by decide) (fun c_15 => False.elim (h3 c_15)) (fun c_15 => ?_)
  refine lv_iload_n hx hb dX0_rules_18 rfl (lv_at hl 2 rfl) ?_
  refine lv_bipush (v := nI 9) hx hb dX0_rules_19 (by decide +kernel) ?_
  refine lv_icmp_le (tgt := 26) hx hb dX0_rules_21 (by decide) (fun c_21 => ?_) (fun c_21 => False.elim (c_21 (tw_le_of h4)))
  refine lv_iload_n hx hb dX0_rules_26 rfl (lv_at hl 3 rfl) ?_
  refine lv_if_lt (tgt := 48) hx hb dX0_rules_27 (by decide) (fun c_27 => False.elim (h5 c_27)) (fun c_27 => ?_)
  refine lv_iload_n hx hb dX0_rules_30 rfl (lv_at hl 3 rfl) ?_
  refine lv_bipush (v := nI 9) hx hb dX0_rules_31 (by decide +kernel) ?_
  refine lv_icmp_gt (tgt := 48) hx hb dX0_rules_33 (by decide) (fun c_33 => False.elim (h6 c_33)) (fun c_33 => ?_)
  refine lv_iload hx hb dX0_rules_36 (lv_at hl 4 rfl) ?_
  refine lv_if_lt (tgt := 48) hx hb dX0_rules_38 (by decide) (fun c_38 => False.elim (h7 c_38)) (fun c_38 => ?_)
  refine lv_iload hx hb dX0_rules_41 (lv_at hl 4 rfl) ?_
  refine lv_bipush (v := nI 9) hx hb dX0_rules_43 (by decide +kernel) ?_
  refine lv_icmp_le (tgt := 50) hx hb dX0_rules_45 (by decide) (fun c_45 => ?_) (fun c_45 => False.elim (c_45 (tw_le_of h8)))
  refine lv_aload_n hx hb dX0_rules_50 rfl (lv_at hl 0 rfl) ?_
  refine lv_iload_n hx hb dX0_rules_51 rfl (lv_at hl 1 rfl) ?_
  refine va_put (D := D) (ci := 0) (v := .int a) (ty := .int) (C := RX0) (T := TX0) (N := 12) hx hb hts in_X0 tyX0 tyX0_ok nmX0 hown hK hP hD hS 0 rfl rfl 2 (by decide) (hts _ q32) (fun _ h9 => h9) rfl (by decide +kernel) rfl rfl (Nat.le_of_ble_eq_true rfl) dX0_rules_52 (fun H locs hP hD hS => ?_)
  have hP : va_P D vwCl (xw q d cn lt a gu op le fr fw bh fd cc cs) H := hP
  have hD : va_D A (xw q d cn lt a gu op le fr fw bh fd cc cs) := hD
  refine lv_aload_n hx hb dX0_rules_55 rfl (lv_at hl 0 rfl) ?_
  refine lv_iload_n hx hb dX0_rules_56 rfl (lv_at hl 2 rfl) ?_
  refine va_put (D := D) (ci := 0) (v := .int b) (ty := .int) (C := RX0) (T := TX0) (N := 12) hx hb hts in_X0 tyX0 tyX0_ok nmX0 hown hK hP hD hS 0 rfl rfl 3 (by decide) (hts _ q33) (fun _ h9 => h9) rfl (by decide +kernel) rfl rfl (Nat.le_of_ble_eq_true rfl) dX0_rules_57 (fun H locs hP hD hS => ?_)
  have hP : va_P D vwCl (xw q d cn lt a b op le fr fw bh fd cc cs) H := hP
  have hD : va_D A (xw q d cn lt a b op le fr fw bh fd cc cs) := hD
  refine lv_aload_n hx hb dX0_rules_60 rfl (lv_at hl 0 rfl) ?_
  refine lv_iload_n hx hb dX0_rules_61 rfl (lv_at hl 3 rfl) ?_
  refine va_put (D := D) (ci := 0) (v := .int o) (ty := .int) (C := RX0) (T := TX0) (N := 12) hx hb hts in_X0 tyX0 tyX0_ok nmX0 hown hK hP hD hS 0 rfl rfl 4 (by decide) (hts _ q34) (fun _ h9 => h9) rfl (by decide +kernel) rfl rfl (Nat.le_of_ble_eq_true rfl) dX0_rules_62 (fun H locs hP hD hS => ?_)
  have hP : va_P D vwCl (xw q d cn lt a b o le fr fw bh fd cc cs) H := hP
  have hD : va_D A (xw q d cn lt a b o le fr fw bh fd cc cs) := hD
  refine lv_aload_n hx hb dX0_rules_65 rfl (lv_at hl 0 rfl) ?_
  refine lv_iload hx hb dX0_rules_66 (lv_at hl 4 rfl) ?_
  refine va_put (D := D) (ci := 0) (v := .int t) (ty := .int) (C := RX0) (T := TX0) (N := 12) hx hb hts in_X0 tyX0 tyX0_ok nmX0 hown hK hP hD hS 0 rfl rfl 5 (by decide) (hts _ q35) (fun _ h9 => h9) rfl (by decide +kernel) rfl rfl (Nat.le_of_ble_eq_true rfl) dX0_rules_68 (fun H locs hP hD hS => ?_)
  have hP : va_P D vwCl (xw q d cn lt a b o t fr fw bh fd cc cs) H := hP
  have hD : va_D A (xw q d cn lt a b o t fr fw bh fd cc cs) := hD
  refine lv_iconst (v := nI 1) hx hb dX0_rules_71 (by decide +kernel) ?_
  exact tw_zret hx hb hr hlocks (by decide +kernel) hK hP hD hS (rfl) dX0_rules_72
end
end
section
/-! THE REFERENCE: its world; gain, offer, fill, work, best, ways -/
abbrev mw (q : Nat → Nat) (d : Nat → ClassId) (lt : Nat → Int32) (cn : Nat → Nat) (ge gu op le : Int32) (sc ct : Nat → Int32) : va_W := [(q 0, .inr (1, [.ref (q 1), .ref (q 2), .int ge, .int gu, .int op, .int le, .ref (q 3), .ref (q 4)])), (q 1, .inl (d 1, 20, .inl lt)), (q 2, .inl (d 2, 2, .inl (fun k => nI (cn k)))), (q 3, .inl (d 3, 363, .inl sc)), (q 4, .inl (d 4, 363, .inl ct))]
abbrev mt (d : Nat → ClassId) : List (ClassId × FieldType) := [(d 1, .int), (d 2, .int), (d 3, .int), (d 4, .int)]
section
variable (l : Launch) (D : va_G) (q : Nat → Nat) (d : Nat → ClassId) (lt : Nat → Int32) (cn : Nat → Nat) (ge gu op le : Int32) (sc ct : Nat → Int32)
set_option maxHeartbeats 4000000 in
set_option maxRecDepth 100000 in
theorem kX1_gain (i : Nat) (j : Nat) (h1 : i < 10) (h2 : j < 10) : Ci l yX1_gain cX1_gain 3 .int 0 0 D vwCl (mt d) [.ref (q 0), .int (nI i), .int (nI j)] (mw q d lt cn ge gu op le sc ct) (x_gain lt ge gu i j) (mw q d lt cn ge gu op le sc ct) := by
  refine Ci.of (by decide +kernel) (Nat.le_of_ble_eq_true rfl) ?_
  intro p e s m below meth c A ls hx hb hr hlocks hml hown hts hK hP hD hS hA hl
  have hown : s.vm.findClass RX1 = some m.cls := hown
  have S : CallFix p m c cX1_gain 3 s ([.ref (q 0), .int (nI i), .int (nI j)] : List Value).toArray lw_all RX1 := ⟨hx, hb, hml, hown, hts⟩
  have hl : lv_has ls 3 [(0, .ref (q 0)), (1, .int (nI i)), (2, .int (nI j))] := hl
  refine lv_aload_n hx hb dX1_gain_0 rfl (lv_at hl 0 rfl) ?_
  refine va_get (D := D) (ci := 1) (v := .ref (q 1)) (C := RX1) (T := TX1) (N := 8) hx hb hts in_X1 hown hK hP 0 rfl rfl 0 (by decide) (hts _ q169) (fun _ h9 => h9) rfl dX1_gain_1 ?_
  refine lv_iload_n hx hb dX1_gain_4 rfl (lv_at hl 1 rfl) ?_
  refine tw_iald hx hb hK hP 1 0 rfl rfl (by omega) (by decide) dX1_gain_5 ?_
  refine lv_aload_n hx hb dX1_gain_6 rfl (lv_at hl 0 rfl) ?_
  refine va_get (D := D) (ci := 1) (v := .ref (q 1)) (C := RX1) (T := TX1) (N := 8) hx hb hts in_X1 hown hK hP 0 rfl rfl 0 (by decide) (hts _ q169) (fun _ h9 => h9) rfl dX1_gain_7 ?_
  refine lv_bipush (v := nI 10) hx hb dX1_gain_10 (by decide +kernel) ?_
  refine lv_iload_n hx hb dX1_gain_12 rfl (lv_at hl 2 rfl) ?_
  refine tw_iadd hx hb dX1_gain_13 ?_
  refine tw_iald hx hb hK hP 1 0 rfl rfl (by omega) (by decide) dX1_gain_14 ?_
  refine lv_icmp_ne (tgt := 25) hx hb dX1_gain_15 (by decide) (fun c_15 => ?_) (fun c_15 => ?_)
  · 
    refine lv_aload_n hx hb dX1_gain_25 rfl (lv_at hl 0 rfl) ?_
    refine va_get (D := D) (ci := 1) (v := .int gu) (C := RX1) (T := TX1) (N := 8) hx hb hts in_X1 hown hK hP 0 rfl rfl 3 (by decide) (hts _ q172) (fun _ h9 => h9) rfl dX1_gain_26 ?_
    exact tw_iret hx hb hr hlocks hK hP hD hS (by rw [x_gain, if_neg c_15]) dX1_gain_29
  · 
    refine lv_aload_n hx hb dX1_gain_18 rfl (lv_at hl 0 rfl) ?_
    refine va_get (D := D) (ci := 1) (v := .int ge) (C := RX1) (T := TX1) (N := 8) hx hb hts in_X1 hown hK hP 0 rfl rfl 2 (by decide) (hts _ q171) (fun _ h9 => h9) rfl dX1_gain_19 ?_
    refine lv_goto (tgt := 29) hx hb dX1_gain_22 (by decide) ?_
    exact tw_iret hx hb hr hlocks hK hP hD hS (by rw [x_gain, if_pos c_15]) dX1_gain_29
set_option maxHeartbeats 4000000 in
set_option maxRecDepth 100000 in
theorem kX1_offer (cell : Nat) (v : Int32) (u : Int32) (h1 : cell < 363) : Cv l yX1_offer cX1_offer 4 0 0 D vwCl (mt d) [.ref (q 0), .int (nI cell), .int v, .int u] (mw q d lt cn ge gu op le sc ct) (mw q d lt cn ge gu op le ((m_off (sc, ct) cell v u).1) ((m_off (sc, ct) cell v u).2)) := by
  refine Cv.of (by decide +kernel) (Nat.le_of_ble_eq_true rfl) ?_
  intro p e s m below meth c A ls hx hb hr hlocks hml hown hts hK hP hD hS hA hl
  have hown : s.vm.findClass RX1 = some m.cls := hown
  have S : CallFix p m c cX1_offer 4 s ([.ref (q 0), .int (nI cell), .int v, .int u] : List Value).toArray lw_all RX1 := ⟨hx, hb, hml, hown, hts⟩
  have hl : lv_has ls 4 [(0, .ref (q 0)), (1, .int (nI cell)), (2, .int v), (3, .int u)] := hl
  refine lv_iload_n hx hb dX1_offer_0 rfl (lv_at hl 2 rfl) ?_
  refine lv_aload_n hx hb dX1_offer_1 rfl (lv_at hl 0 rfl) ?_
  refine va_get (D := D) (ci := 1) (v := .ref (q 3)) (C := RX1) (T := TX1) (N := 8) hx hb hts in_X1 hown hK hP 0 rfl rfl 6 (by decide) (hts _ q175) (fun _ h9 => h9) rfl dX1_offer_2 ?_
  refine lv_iload_n hx hb dX1_offer_5 rfl (lv_at hl 1 rfl) ?_
  refine tw_iald hx hb hK hP 3 2 rfl rfl (by omega) (by decide) dX1_offer_6 ?_
  refine lv_icmp_le (tgt := 24) hx hb dX1_offer_7 (by decide) (fun c_7 => ?_) (fun c_7 => ?_)
  · 
    have ho : m_o1 (sc, ct) cell v = (sc, ct) := if_pos c_7
    refine lv_iload_n hx hb dX1_offer_24 rfl (lv_at hl 2 rfl) ?_
    refine lv_aload_n hx hb dX1_offer_25 rfl (lv_at hl 0 rfl) ?_
    refine va_get (D := D) (ci := 1) (v := .ref (q 3)) (C := RX1) (T := TX1) (N := 8) hx hb hts in_X1 hown hK hP 0 rfl rfl 6 (by decide) (hts _ q175) (fun _ h9 => h9) rfl dX1_offer_26 ?_
    refine lv_iload_n hx hb dX1_offer_29 rfl (lv_at hl 1 rfl) ?_
    refine tw_iald hx hb hK hP 3 2 rfl rfl (by omega) (by decide) dX1_offer_30 ?_
    refine lv_icmp_ne (tgt := 50) hx hb dX1_offer_31 (by decide) (fun c_31 => ?_) (fun c_31 => ?_)
    · 
      have hh : m_off (sc, ct) cell v u = (sc, ct) := by
        unfold m_off
        rw [ho]
        exact if_neg (fun h => c_31 h.1)
      have hE : (mw q d lt cn ge gu op le sc ct) = (mw q d lt cn ge gu op le ((m_off (sc, ct) cell v u).1) ((m_off (sc, ct) cell v u).2)) := by simp only [hh]
      rw [hE] at hP hD
      clear hE
      exact tw_vret hx hb hr hlocks hK hP hD hS dX1_offer_50
    · 
      refine lv_iload_n hx hb dX1_offer_34 rfl (lv_at hl 2 rfl) ?_
      refine lv_ldc (v := -50000) hx hb hown (hts _ q223) dX1_offer_35 ?_
      refine lv_icmp_le (tgt := 50) hx hb dX1_offer_37 (by decide) (fun c_37 => ?_) (fun c_37 => ?_)
      · 
        have hh : m_off (sc, ct) cell v u = (sc, ct) := by
          unfold m_off
          rw [ho]
          exact if_neg (fun h => h.2 c_37)
        have hE : (mw q d lt cn ge gu op le sc ct) = (mw q d lt cn ge gu op le ((m_off (sc, ct) cell v u).1) ((m_off (sc, ct) cell v u).2)) := by simp only [hh]
        rw [hE] at hP hD
        clear hE
        exact tw_vret hx hb hr hlocks hK hP hD hS dX1_offer_50
      · 
        refine lv_aload_n hx hb dX1_offer_40 rfl (lv_at hl 0 rfl) ?_
        refine va_get (D := D) (ci := 1) (v := .ref (q 4)) (C := RX1) (T := TX1) (N := 8) hx hb hts in_X1 hown hK hP 0 rfl rfl 7 (by decide) (hts _ q176) (fun _ h9 => h9) rfl dX1_offer_41 ?_
        refine lv_iload_n hx hb dX1_offer_44 rfl (lv_at hl 1 rfl) ?_
        refine lv_dup2_11 hx hb dX1_offer_45 rfl rfl ?_
        refine tw_iald hx hb hK hP 4 3 rfl rfl (by omega) (by decide) dX1_offer_46 ?_
        refine lv_iload_n hx hb dX1_offer_47 rfl (lv_at hl 3 rfl) ?_
        refine lv_iadd hx hb dX1_offer_48 ?_
        refine tw_iast hx hb hK hP hD hS 4 3 rfl rfl (by omega) (by decide) dX1_offer_49 (fun H locs hP hD hS => ?_)
        have hP : va_P D vwCl (mw q d lt cn ge gu op le sc (upd ct cell (ct cell + u))) H := hP
        have hD : va_D A (mw q d lt cn ge gu op le sc (upd ct cell (ct cell + u))) := hD
        have hh : m_off (sc, ct) cell v u = (sc, upd ct cell (ct cell + u)) := by
          unfold m_off
          rw [ho]
          exact if_pos ⟨c_31, c_37⟩
        have hE : (mw q d lt cn ge gu op le sc (upd ct cell (ct cell + u))) = (mw q d lt cn ge gu op le ((m_off (sc, ct) cell v u).1) ((m_off (sc, ct) cell v u).2)) := by simp only [hh]
        rw [hE] at hP hD
        clear hE
        exact tw_vret hx hb hr hlocks hK hP hD hS dX1_offer_50
  · 
    have ho : m_o1 (sc, ct) cell v = (upd sc cell v, upd ct cell (nI 0)) := if_neg c_7
    refine lv_aload_n hx hb dX1_offer_10 rfl (lv_at hl 0 rfl) ?_
    refine va_get (D := D) (ci := 1) (v := .ref (q 3)) (C := RX1) (T := TX1) (N := 8) hx hb hts in_X1 hown hK hP 0 rfl rfl 6 (by decide) (hts _ q175) (fun _ h9 => h9) rfl dX1_offer_11 ?_
    refine lv_iload_n hx hb dX1_offer_14 rfl (lv_at hl 1 rfl) ?_
    refine lv_iload_n hx hb dX1_offer_15 rfl (lv_at hl 2 rfl) ?_
    refine tw_iast hx hb hK hP hD hS 3 2 rfl rfl (by omega) (by decide) dX1_offer_16 (fun H locs hP hD hS => ?_)
    have hP : va_P D vwCl (mw q d lt cn ge gu op le (upd sc cell v) ct) H := hP
    have hD : va_D A (mw q d lt cn ge gu op le (upd sc cell v) ct) := hD
    refine lv_aload_n hx hb dX1_offer_17 rfl (lv_at hl 0 rfl) ?_
    refine va_get (D := D) (ci := 1) (v := .ref (q 4)) (C := RX1) (T := TX1) (N := 8) hx hb hts in_X1 hown hK hP 0 rfl rfl 7 (by decide) (hts _ q176) (fun _ h9 => h9) rfl dX1_offer_18 ?_
    refine lv_iload_n hx hb dX1_offer_21 rfl (lv_at hl 1 rfl) ?_
    refine lv_iconst (v := nI 0) hx hb dX1_offer_22 (by decide +kernel) ?_
    refine tw_iast hx hb hK hP hD hS 4 3 rfl rfl (by omega) (by decide) dX1_offer_23 (fun H locs hP hD hS => ?_)
    have hP : va_P D vwCl (mw q d lt cn ge gu op le (upd sc cell v) (upd ct cell (nI 0))) H := hP
    have hD : va_D A (mw q d lt cn ge gu op le (upd sc cell v) (upd ct cell (nI 0))) := hD
    refine lv_iload_n hx hb dX1_offer_24 rfl (lv_at hl 2 rfl) ?_
    refine lv_aload_n hx hb dX1_offer_25 rfl (lv_at hl 0 rfl) ?_
    refine va_get (D := D) (ci := 1) (v := .ref (q 3)) (C := RX1) (T := TX1) (N := 8) hx hb hts in_X1 hown hK hP 0 rfl rfl 6 (by decide) (hts _ q175) (fun _ h9 => h9) rfl dX1_offer_26 ?_
    refine lv_iload_n hx hb dX1_offer_29 rfl (lv_at hl 1 rfl) ?_
    refine tw_iald hx hb hK hP 3 2 rfl rfl (by omega) (by decide) dX1_offer_30 ?_
    refine lv_icmp_ne (tgt := 50) hx hb dX1_offer_31 (by decide) (fun c_31 => False.elim (c_31 pk_us.symm)) (fun c_31 => ?_)
    refine lv_iload_n hx hb dX1_offer_34 rfl (lv_at hl 2 rfl) ?_
    refine lv_ldc (v := -50000) hx hb hown (hts _ q223) dX1_offer_35 ?_
    refine lv_icmp_le (tgt := 50) hx hb dX1_offer_37 (by decide) (fun c_37 => ?_) (fun c_37 => ?_)
    · 
      have hh : m_off (sc, ct) cell v u = (upd sc cell v, upd ct cell (nI 0)) := by
        unfold m_off
        rw [ho]
        exact if_neg (fun h => h.2 c_37)
      have hE : (mw q d lt cn ge gu op le (upd sc cell v) (upd ct cell (nI 0))) = (mw q d lt cn ge gu op le ((m_off (sc, ct) cell v u).1) ((m_off (sc, ct) cell v u).2)) := by simp only [hh]
      rw [hE] at hP hD
      clear hE
      exact tw_vret hx hb hr hlocks hK hP hD hS dX1_offer_50
    · 
      refine lv_aload_n hx hb dX1_offer_40 rfl (lv_at hl 0 rfl) ?_
      refine va_get (D := D) (ci := 1) (v := .ref (q 4)) (C := RX1) (T := TX1) (N := 8) hx hb hts in_X1 hown hK hP 0 rfl rfl 7 (by decide) (hts _ q176) (fun _ h9 => h9) rfl dX1_offer_41 ?_
      refine lv_iload_n hx hb dX1_offer_44 rfl (lv_at hl 1 rfl) ?_
      refine lv_dup2_11 hx hb dX1_offer_45 rfl rfl ?_
      refine tw_iald hx hb hK hP 4 3 rfl rfl (by omega) (by decide) dX1_offer_46 ?_
      refine lv_iload_n hx hb dX1_offer_47 rfl (lv_at hl 3 rfl) ?_
      refine lv_iadd hx hb dX1_offer_48 ?_
      refine tw_iast hx hb hK hP hD hS 4 3 rfl rfl (by omega) (by decide) dX1_offer_49 (fun H locs hP hD hS => ?_)
      have hP : va_P D vwCl (mw q d lt cn ge gu op le (upd sc cell v) (upd (upd ct cell (nI 0)) cell ((upd ct cell (nI 0)) cell + u))) H := hP
      have hD : va_D A (mw q d lt cn ge gu op le (upd sc cell v) (upd (upd ct cell (nI 0)) cell ((upd ct cell (nI 0)) cell + u))) := hD
      have hh : m_off (sc, ct) cell v u = (upd sc cell v, upd (upd ct cell (nI 0)) cell (upd ct cell (nI 0) cell + u)) := by
        unfold m_off
        rw [ho]
        exact if_pos ⟨c_31, c_37⟩
      have hE : (mw q d lt cn ge gu op le (upd sc cell v) (upd (upd ct cell (nI 0)) cell ((upd ct cell (nI 0)) cell + u))) = (mw q d lt cn ge gu op le ((m_off (sc, ct) cell v u).1) ((m_off (sc, ct) cell v u).2)) := by simp only [hh]
      rw [hE] at hP hD
      clear hE
      exact tw_vret hx hb hr hlocks hK hP hD hS dX1_offer_50
set_option maxHeartbeats 4000000 in
set_option maxRecDepth 100000 in
theorem kX1_fill (i : Nat) (j : Nat) (la : Nat) (a : Nat) (b : Nat) (how : Nat) (h1 : i ≤ a) (h2 : j ≤ b) (h3 : la < 3) (h4 : a ≤ 10) (h5 : b ≤ 10) (h6 : how < 3) : Cv l yX1_fill cX1_fill 10 1 23 D vwCl (mt d) [.ref (q 0), .int (nI i), .int (nI j), .int (nI la), .int (nI a), .int (nI b), .int (nI how)] (mw q d lt cn ge gu op le sc ct) (mw q d lt cn ge gu op le ((m_fil lt ge gu op le how a b i j la (sc, ct)).1) ((m_fil lt ge gu op le how a b i j la (sc, ct)).2)) := by
  refine Cv.of (by decide +kernel) (Nat.le_of_ble_eq_true rfl) ?_
  intro p e s m below meth c A ls hx hb hr hlocks hml hown hts hK hP hD hS hA hl
  have hown : s.vm.findClass RX1 = some m.cls := hown
  have S : CallFix p m c cX1_fill 10 s ([.ref (q 0), .int (nI i), .int (nI j), .int (nI la), .int (nI a), .int (nI b), .int (nI how)] : List Value).toArray lw_all RX1 := ⟨hx, hb, hml, hown, hts⟩
  have hl : lv_has ls 10 [(0, .ref (q 0)), (1, .int (nI i)), (2, .int (nI j)), (3, .int (nI la)), (4, .int (nI a)), (5, .int (nI b)), (6, .int (nI how))] := hl
  have j195 : ∀ (H : Heap) (locs : List Loc) (ls : Array Slot), va_P D vwCl (mw q d lt cn ge gu op le ((m_f3 lt ge gu op le how a b i j la (sc, ct)).1) ((m_f3 lt ge gu op le how a b i j la (sc, ct)).2)) H → va_D A (mw q d lt cn ge gu op le ((m_f3 lt ge gu op le how a b i j la (sc, ct)).1) ((m_f3 lt ge gu op le how a b i j la (sc, ct)).2)) → va_S A s.heap H locs → lv_has ls 10 [(7, .int (nI ((i * 11 + j) * 3 + la))), (0, .ref (q 0)), (1, .int (nI i)), (2, .int (nI j)), (3, .int (nI la)), (4, .int (nI a)), (5, .int (nI b)), (6, .int (nI how))] → W p l e (tw_rm 1 23) s m ([.ref (q 0), .int (nI i), .int (nI j), .int (nI la), .int (nI a), .int (nI b), .int (nI how)] : List Value).toArray below meth c H locs 0 0 (MQ below (tw_Qv D vwCl (mt d) (mw q d lt cn ge gu op le ((m_fil lt ge gu op le how a b i j la (sc, ct)).1) ((m_fil lt ge gu op le how a b i j la (sc, ct)).2)) A) ([.ref (q 0), .int (nI i), .int (nI j), .int (nI la), .int (nI a), .int (nI b), .int (nI how)] : List Value).toArray s 0 0 A) (F0 m 195 ls []) := by
    intro H locs ls hP hD hS hl
    by_cases hla : la = 2
    · 
      have hh : m_fil lt ge gu op le how a b i j la (sc, ct) = m_f3 lt ge gu op le how a b i j la (sc, ct) := if_pos hla
      refine lv_iconst (v := nI 1) hx hb dX1_fill_195 (by decide +kernel) ?_
      refine lv_istore (lv' := [(8, .int (nI 1)), (7, .int (nI ((i * 11 + j) * 3 + la))), (0, .ref (q 0)), (1, .int (nI i)), (2, .int (nI j)), (3, .int (nI la)), (4, .int (nI a)), (5, .int (nI b)), (6, .int (nI how))]) hx hb dX1_fill_196 hl (by decide) rfl (fun ls hl => ?_)
      refine lv_iload_n hx hb dX1_fill_198 rfl (lv_at hl 5 rfl) ?_
      refine lv_iconst (v := nI 2) hx hb dX1_fill_199 (by decide +kernel) ?_
      refine tw_icmp_eq (tgt := 266) hx hb (by omega) (by omega) dX1_fill_200 (by decide) (fun c_200 => ?_) (fun c_200 => False.elim (by omega))
      have hE : (mw q d lt cn ge gu op le ((m_f3 lt ge gu op le how a b i j la (sc, ct)).1) ((m_f3 lt ge gu op le how a b i j la (sc, ct)).2)) = (mw q d lt cn ge gu op le ((m_fil lt ge gu op le how a b i j la (sc, ct)).1) ((m_fil lt ge gu op le how a b i j la (sc, ct)).2)) := by rw [hh]
      rw [hE] at hP hD
      clear hE
      exact tw_vret hx hb hr hlocks hK hP hD hS dX1_fill_266
    · 
      have hh : m_fil lt ge gu op le how a b i j la (sc, ct) = m_g2 op le i j ((i * 11 + j) * 3 + la) (b - j) (m_f3 lt ge gu op le how a b i j la (sc, ct)) := if_neg hla
      have loop : ∀ (n k : Nat), k ≤ b - j → b - j + 1 ≤ k + n → ∀ (H : Heap) (locs : List Loc) (ls : Array Slot), va_P D vwCl (mw q d lt cn ge gu op le ((m_g2 op le i j ((i * 11 + j) * 3 + la) k (m_f3 lt ge gu op le how a b i j la (sc, ct))).1) ((m_g2 op le i j ((i * 11 + j) * 3 + la) k (m_f3 lt ge gu op le how a b i j la (sc, ct))).2)) H → va_D A (mw q d lt cn ge gu op le ((m_g2 op le i j ((i * 11 + j) * 3 + la) k (m_f3 lt ge gu op le how a b i j la (sc, ct))).1) ((m_g2 op le i j ((i * 11 + j) * 3 + la) k (m_f3 lt ge gu op le how a b i j la (sc, ct))).2)) → va_S A s.heap H locs → lv_has ls 10 [(8, .int (nI (k + 1))), (7, .int (nI ((i * 11 + j) * 3 + la))), (0, .ref (q 0)), (1, .int (nI i)), (2, .int (nI j)), (3, .int (nI la)), (4, .int (nI a)), (5, .int (nI b)), (6, .int (nI how))] → W p l e (tw_rm 1 23) s m ([.ref (q 0), .int (nI i), .int (nI j), .int (nI la), .int (nI a), .int (nI b), .int (nI how)] : List Value).toArray below meth c H locs 0 0 (MQ below (tw_Qv D vwCl (mt d) (mw q d lt cn ge gu op le ((m_fil lt ge gu op le how a b i j la (sc, ct)).1) ((m_fil lt ge gu op le how a b i j la (sc, ct)).2)) A) ([.ref (q 0), .int (nI i), .int (nI j), .int (nI la), .int (nI a), .int (nI b), .int (nI how)] : List Value).toArray s 0 0 A) (F0 m 198 ls []) := by
        intro n
        induction n with
        | zero => intro k hk hn; exact absurd hn (by omega)
        | succ n ih =>
          intro k hk hn H locs ls hP hD hS hl
          refine lv_iload_n hx hb dX1_fill_198 rfl (lv_at hl 5 rfl) ?_
          refine lv_iconst (v := nI 2) hx hb dX1_fill_199 (by decide +kernel) ?_
          refine tw_icmp_eq (tgt := 266) hx hb (by omega) (by omega) dX1_fill_200 (by decide) (fun c_200 => False.elim (by omega)) (fun c_200 => ?_)
          refine lv_iload_n hx hb dX1_fill_203 rfl (lv_at hl 4 rfl) ?_
          refine lv_iload hx hb dX1_fill_204 (lv_at hl 0 rfl) ?_
          refine tw_iadd hx hb dX1_fill_206 ?_
          refine lv_iload hx hb dX1_fill_207 (lv_at hl 7 rfl) ?_
          refine tw_icmp_gt (tgt := 266) hx hb (by omega) (by omega) dX1_fill_209 (by decide) (fun c_209 => ?_) (fun c_209 => ?_)
          · 
            have hk3 : k = b - j := by omega
            subst hk3
            have hE : (mw q d lt cn ge gu op le ((m_g2 op le i j ((i * 11 + j) * 3 + la) (b - j) (m_f3 lt ge gu op le how a b i j la (sc, ct))).1) ((m_g2 op le i j ((i * 11 + j) * 3 + la) (b - j) (m_f3 lt ge gu op le how a b i j la (sc, ct))).2)) = (mw q d lt cn ge gu op le ((m_fil lt ge gu op le how a b i j la (sc, ct)).1) ((m_fil lt ge gu op le how a b i j la (sc, ct)).2)) := by rw [hh]
            rw [hE] at hP hD
            clear hE
            exact tw_vret hx hb hr hlocks hK hP hD hS dX1_fill_266
          · 
            refine lv_iload_n hx hb dX1_fill_212 rfl (lv_at hl 3 rfl) ?_
            refine lv_bipush (v := nI 11) hx hb dX1_fill_213 (by decide +kernel) ?_
            refine tw_imul hx hb dX1_fill_215 ?_
            refine lv_iload_n hx hb dX1_fill_216 rfl (lv_at hl 4 rfl) ?_
            refine tw_iadd hx hb dX1_fill_217 ?_
            refine lv_iload hx hb dX1_fill_218 (lv_at hl 0 rfl) ?_
            refine tw_iadd hx hb dX1_fill_220 ?_
            refine lv_iconst (v := nI 3) hx hb dX1_fill_221 (by decide +kernel) ?_
            refine tw_imul hx hb dX1_fill_222 ?_
            refine lv_iconst (v := nI 2) hx hb dX1_fill_223 (by decide +kernel) ?_
            refine tw_iadd hx hb dX1_fill_224 ?_
            refine lv_istore (lv' := [(9, .int (nI ((i * 11 + j + (k + 1)) * 3 + 2))), (8, .int (nI (k + 1))), (7, .int (nI ((i * 11 + j) * 3 + la))), (0, .ref (q 0)), (1, .int (nI i)), (2, .int (nI j)), (3, .int (nI la)), (4, .int (nI a)), (5, .int (nI b)), (6, .int (nI how))]) hx hb dX1_fill_225 hl (by decide) rfl (fun ls hl => ?_)
            refine lv_aload_n hx hb dX1_fill_227 rfl (lv_at hl 3 rfl) ?_
            refine lv_iload hx hb dX1_fill_228 (lv_at hl 2 rfl) ?_
            refine lv_aload_n hx hb dX1_fill_230 rfl (lv_at hl 3 rfl) ?_
            refine va_get (D := D) (ci := 1) (v := .ref (q 3)) (C := RX1) (T := TX1) (N := 8) hx hb hts in_X1 hown hK hP 0 rfl rfl 6 (by decide) (hts _ q175) (fun _ h9 => h9) rfl dX1_fill_231 ?_
            refine lv_iload hx hb dX1_fill_234 (lv_at hl 0 rfl) ?_
            refine tw_iald hx hb hK hP 3 2 rfl rfl (by omega) (by decide) dX1_fill_236 ?_
            refine lv_aload_n hx hb dX1_fill_237 rfl (lv_at hl 3 rfl) ?_
            refine va_get (D := D) (ci := 1) (v := .int op) (C := RX1) (T := TX1) (N := 8) hx hb hts in_X1 hown hK hP 0 rfl rfl 4 (by decide) (hts _ q173) (fun _ h9 => h9) rfl dX1_fill_238 ?_
            refine lv_isub hx hb dX1_fill_241 ?_
            refine lv_iload hx hb dX1_fill_242 (lv_at hl 1 rfl) ?_
            refine lv_aload_n hx hb dX1_fill_244 rfl (lv_at hl 3 rfl) ?_
            refine va_get (D := D) (ci := 1) (v := .int le) (C := RX1) (T := TX1) (N := 8) hx hb hts in_X1 hown hK hP 0 rfl rfl 5 (by decide) (hts _ q174) (fun _ h9 => h9) rfl dX1_fill_245 ?_
            refine lv_imul hx hb dX1_fill_248 ?_
            refine lv_isub hx hb dX1_fill_249 ?_
            refine lv_aload_n hx hb dX1_fill_250 rfl (lv_at hl 3 rfl) ?_
            refine va_get (D := D) (ci := 1) (v := .ref (q 4)) (C := RX1) (T := TX1) (N := 8) hx hb hts in_X1 hown hK hP 0 rfl rfl 7 (by decide) (hts _ q176) (fun _ h9 => h9) rfl dX1_fill_251 ?_
            refine lv_iload hx hb dX1_fill_254 (lv_at hl 0 rfl) ?_
            refine tw_iald hx hb hK hP 4 3 rfl rfl (by omega) (by decide) dX1_fill_256 ?_
            refine tw_callv (n := 3) (rest := []) (wr := []) (w' := (mw q d lt cn ge gu op le ((m_off (((m_g2 op le i j ((i * 11 + j) * 3 + la) k (m_f3 lt ge gu op le how a b i j la (sc, ct))).1), ((m_g2 op le i j ((i * 11 + j) * 3 + la) k (m_f3 lt ge gu op le how a b i j la (sc, ct))).2)) ((i * 11 + j) * 3 + la) (((m_g2 op le i j ((i * 11 + j) * 3 + la) k (m_f3 lt ge gu op le how a b i j la (sc, ct))).1) ((i * 11 + j + (k + 1)) * 3 + 2) - op - nI (k + 1) * le) (((m_g2 op le i j ((i * 11 + j) * 3 + la) k (m_f3 lt ge gu op le how a b i j la (sc, ct))).2) ((i * 11 + j + (k + 1)) * 3 + 2))).1) ((m_off (((m_g2 op le i j ((i * 11 + j) * 3 + la) k (m_f3 lt ge gu op le how a b i j la (sc, ct))).1), ((m_g2 op le i j ((i * 11 + j) * 3 + la) k (m_f3 lt ge gu op le how a b i j la (sc, ct))).2)) ((i * 11 + j) * 3 + la) (((m_g2 op le i j ((i * 11 + j) * 3 + la) k (m_f3 lt ge gu op le how a b i j la (sc, ct))).1) ((i * 11 + j + (k + 1)) * 3 + 2) - op - nI (k + 1) * le) (((m_g2 op le i j ((i * 11 + j) * 3 + la) k (m_f3 lt ge gu op le how a b i j la (sc, ct))).2) ((i * 11 + j + (k + 1)) * 3 + 2))).2))) (kX1_offer l D q d lt cn ge gu op le ((m_g2 op le i j ((i * 11 + j) * 3 + la) k (m_f3 lt ge gu op le how a b i j la (sc, ct))).1) ((m_g2 op le i j ((i * 11 + j) * 3 + la) k (m_f3 lt ge gu op le how a b i j la (sc, ct))).2) ((i * 11 + j) * 3 + la) (((m_g2 op le i j ((i * 11 + j) * 3 + la) k (m_f3 lt ge gu op le how a b i j la (sc, ct))).1) ((i * 11 + j + (k + 1)) * 3 + 2) - op - nI (k + 1) * le) (((m_g2 op le i j ((i * 11 + j) * 3 + la) k (m_f3 lt ge gu op le how a b i j la (sc, ct))).2) ((i * 11 + j + (k + 1)) * 3 + 2)) (by omega)) S (lw_V q219 q221 qs14 q21 q222) (by decide +kernel) ⟨Nat.le_of_ble_eq_true rfl, Nat.le_of_ble_eq_true rfl⟩ hK hP hD hS hA [0, 1, 2, 3, 4] [] [0, 1, 2, 3] rfl rfl (by decide) (by decide) (fun i h => absurd h List.not_mem_nil) rfl (ci := 1) rfl (q0 := 0) rfl rfl rfl hl.1 (Nat.le_of_ble_eq_true rfl) dX1_fill_257 ⟨Nat.zero_le _, Nat.zero_le _⟩ (fun H locs hP hD hS => ?_)
            have hP : va_P D vwCl (mw q d lt cn ge gu op le ((m_off (((m_g2 op le i j ((i * 11 + j) * 3 + la) k (m_f3 lt ge gu op le how a b i j la (sc, ct))).1), ((m_g2 op le i j ((i * 11 + j) * 3 + la) k (m_f3 lt ge gu op le how a b i j la (sc, ct))).2)) ((i * 11 + j) * 3 + la) (((m_g2 op le i j ((i * 11 + j) * 3 + la) k (m_f3 lt ge gu op le how a b i j la (sc, ct))).1) ((i * 11 + j + (k + 1)) * 3 + 2) - op - nI (k + 1) * le) (((m_g2 op le i j ((i * 11 + j) * 3 + la) k (m_f3 lt ge gu op le how a b i j la (sc, ct))).2) ((i * 11 + j + (k + 1)) * 3 + 2))).1) ((m_off (((m_g2 op le i j ((i * 11 + j) * 3 + la) k (m_f3 lt ge gu op le how a b i j la (sc, ct))).1), ((m_g2 op le i j ((i * 11 + j) * 3 + la) k (m_f3 lt ge gu op le how a b i j la (sc, ct))).2)) ((i * 11 + j) * 3 + la) (((m_g2 op le i j ((i * 11 + j) * 3 + la) k (m_f3 lt ge gu op le how a b i j la (sc, ct))).1) ((i * 11 + j + (k + 1)) * 3 + 2) - op - nI (k + 1) * le) (((m_g2 op le i j ((i * 11 + j) * 3 + la) k (m_f3 lt ge gu op le how a b i j la (sc, ct))).2) ((i * 11 + j + (k + 1)) * 3 + 2))).2)) H := hP
            have hD : va_D A (mw q d lt cn ge gu op le ((m_off (((m_g2 op le i j ((i * 11 + j) * 3 + la) k (m_f3 lt ge gu op le how a b i j la (sc, ct))).1), ((m_g2 op le i j ((i * 11 + j) * 3 + la) k (m_f3 lt ge gu op le how a b i j la (sc, ct))).2)) ((i * 11 + j) * 3 + la) (((m_g2 op le i j ((i * 11 + j) * 3 + la) k (m_f3 lt ge gu op le how a b i j la (sc, ct))).1) ((i * 11 + j + (k + 1)) * 3 + 2) - op - nI (k + 1) * le) (((m_g2 op le i j ((i * 11 + j) * 3 + la) k (m_f3 lt ge gu op le how a b i j la (sc, ct))).2) ((i * 11 + j + (k + 1)) * 3 + 2))).1) ((m_off (((m_g2 op le i j ((i * 11 + j) * 3 + la) k (m_f3 lt ge gu op le how a b i j la (sc, ct))).1), ((m_g2 op le i j ((i * 11 + j) * 3 + la) k (m_f3 lt ge gu op le how a b i j la (sc, ct))).2)) ((i * 11 + j) * 3 + la) (((m_g2 op le i j ((i * 11 + j) * 3 + la) k (m_f3 lt ge gu op le how a b i j la (sc, ct))).1) ((i * 11 + j + (k + 1)) * 3 + 2) - op - nI (k + 1) * le) (((m_g2 op le i j ((i * 11 + j) * 3 + la) k (m_f3 lt ge gu op le how a b i j la (sc, ct))).2) ((i * 11 + j + (k + 1)) * 3 + 2))).2)) := hD
            refine tw_iinc (lv' := [(8, .int (nI ((k + 1) + 1))), (9, .int (nI ((i * 11 + j + (k + 1)) * 3 + 2))), (7, .int (nI ((i * 11 + j) * 3 + la))), (0, .ref (q 0)), (1, .int (nI i)), (2, .int (nI j)), (3, .int (nI la)), (4, .int (nI a)), (5, .int (nI b)), (6, .int (nI how))]) hx hb dX1_fill_260 hl (k := 1) rfl (by decide) rfl (fun ls hl => ?_)
            refine lv_goto (tgt := 198) hx hb dX1_fill_263 (by decide) ?_
            exact ih (k + 1) (by omega) (by omega) _ _ _ hP hD hS (lv_sub hl [0, 2, 3, 4, 5, 6, 7, 8, 9] rfl)
      refine lv_iconst (v := nI 1) hx hb dX1_fill_195 (by decide +kernel) ?_
      refine lv_istore (lv' := [(8, .int (nI 1)), (7, .int (nI ((i * 11 + j) * 3 + la))), (0, .ref (q 0)), (1, .int (nI i)), (2, .int (nI j)), (3, .int (nI la)), (4, .int (nI a)), (5, .int (nI b)), (6, .int (nI how))]) hx hb dX1_fill_196 hl (by decide) rfl (fun ls hl => ?_)
      exact loop (b - j + 1) 0 (by omega) (by omega) _ _ _ hP hD hS (lv_sub hl [0, 1, 2, 3, 4, 5, 6, 7, 8] rfl)
  have j124 : ∀ (H : Heap) (locs : List Loc) (ls : Array Slot), va_P D vwCl (mw q d lt cn ge gu op le ((m_f2 lt ge gu how a b i j la (sc, ct)).1) ((m_f2 lt ge gu how a b i j la (sc, ct)).2)) H → va_D A (mw q d lt cn ge gu op le ((m_f2 lt ge gu how a b i j la (sc, ct)).1) ((m_f2 lt ge gu how a b i j la (sc, ct)).2)) → va_S A s.heap H locs → lv_has ls 10 [(7, .int (nI ((i * 11 + j) * 3 + la))), (0, .ref (q 0)), (1, .int (nI i)), (2, .int (nI j)), (3, .int (nI la)), (4, .int (nI a)), (5, .int (nI b)), (6, .int (nI how))] → W p l e (tw_rm 1 23) s m ([.ref (q 0), .int (nI i), .int (nI j), .int (nI la), .int (nI a), .int (nI b), .int (nI how)] : List Value).toArray below meth c H locs 0 0 (MQ below (tw_Qv D vwCl (mt d) (mw q d lt cn ge gu op le ((m_fil lt ge gu op le how a b i j la (sc, ct)).1) ((m_fil lt ge gu op le how a b i j la (sc, ct)).2)) A) ([.ref (q 0), .int (nI i), .int (nI j), .int (nI la), .int (nI a), .int (nI b), .int (nI how)] : List Value).toArray s 0 0 A) (F0 m 124 ls []) := by
    intro H locs ls hP hD hS hl
    by_cases hla : la = 1
    · 
      have hh : m_f3 lt ge gu op le how a b i j la (sc, ct) = m_f2 lt ge gu how a b i j la (sc, ct) := if_pos hla
      refine lv_iconst (v := nI 1) hx hb dX1_fill_124 (by decide +kernel) ?_
      refine lv_istore (lv' := [(8, .int (nI 1)), (7, .int (nI ((i * 11 + j) * 3 + la))), (0, .ref (q 0)), (1, .int (nI i)), (2, .int (nI j)), (3, .int (nI la)), (4, .int (nI a)), (5, .int (nI b)), (6, .int (nI how))]) hx hb dX1_fill_125 hl (by decide) rfl (fun ls hl => ?_)
      refine lv_iload_n hx hb dX1_fill_127 rfl (lv_at hl 5 rfl) ?_
      refine lv_iconst (v := nI 1) hx hb dX1_fill_128 (by decide +kernel) ?_
      refine tw_icmp_eq (tgt := 195) hx hb (by omega) (by omega) dX1_fill_129 (by decide) (fun c_129 => ?_) (fun c_129 => False.elim (by omega))
      have hE : (mw q d lt cn ge gu op le ((m_f2 lt ge gu how a b i j la (sc, ct)).1) ((m_f2 lt ge gu how a b i j la (sc, ct)).2)) = (mw q d lt cn ge gu op le ((m_f3 lt ge gu op le how a b i j la (sc, ct)).1) ((m_f3 lt ge gu op le how a b i j la (sc, ct)).2)) := by rw [hh]
      rw [hE] at hP hD
      clear hE
      exact j195 _ _ _ hP hD hS (lv_sub hl [1, 2, 3, 4, 5, 6, 7, 8] rfl)
    · 
      have hh : m_f3 lt ge gu op le how a b i j la (sc, ct) = m_g1 op le i j ((i * 11 + j) * 3 + la) (a - i) (m_f2 lt ge gu how a b i j la (sc, ct)) := if_neg hla
      have loop : ∀ (n k : Nat), k ≤ a - i → a - i + 1 ≤ k + n → ∀ (H : Heap) (locs : List Loc) (ls : Array Slot), va_P D vwCl (mw q d lt cn ge gu op le ((m_g1 op le i j ((i * 11 + j) * 3 + la) k (m_f2 lt ge gu how a b i j la (sc, ct))).1) ((m_g1 op le i j ((i * 11 + j) * 3 + la) k (m_f2 lt ge gu how a b i j la (sc, ct))).2)) H → va_D A (mw q d lt cn ge gu op le ((m_g1 op le i j ((i * 11 + j) * 3 + la) k (m_f2 lt ge gu how a b i j la (sc, ct))).1) ((m_g1 op le i j ((i * 11 + j) * 3 + la) k (m_f2 lt ge gu how a b i j la (sc, ct))).2)) → va_S A s.heap H locs → lv_has ls 10 [(8, .int (nI (k + 1))), (7, .int (nI ((i * 11 + j) * 3 + la))), (0, .ref (q 0)), (1, .int (nI i)), (2, .int (nI j)), (3, .int (nI la)), (4, .int (nI a)), (5, .int (nI b)), (6, .int (nI how))] → W p l e (tw_rm 1 23) s m ([.ref (q 0), .int (nI i), .int (nI j), .int (nI la), .int (nI a), .int (nI b), .int (nI how)] : List Value).toArray below meth c H locs 0 0 (MQ below (tw_Qv D vwCl (mt d) (mw q d lt cn ge gu op le ((m_fil lt ge gu op le how a b i j la (sc, ct)).1) ((m_fil lt ge gu op le how a b i j la (sc, ct)).2)) A) ([.ref (q 0), .int (nI i), .int (nI j), .int (nI la), .int (nI a), .int (nI b), .int (nI how)] : List Value).toArray s 0 0 A) (F0 m 127 ls []) := by
        intro n
        induction n with
        | zero => intro k hk hn; exact absurd hn (by omega)
        | succ n ih =>
          intro k hk hn H locs ls hP hD hS hl
          refine lv_iload_n hx hb dX1_fill_127 rfl (lv_at hl 5 rfl) ?_
          refine lv_iconst (v := nI 1) hx hb dX1_fill_128 (by decide +kernel) ?_
          refine tw_icmp_eq (tgt := 195) hx hb (by omega) (by omega) dX1_fill_129 (by decide) (fun c_129 => False.elim (by omega)) (fun c_129 => ?_)
          refine lv_iload_n hx hb dX1_fill_132 rfl (lv_at hl 3 rfl) ?_
          refine lv_iload hx hb dX1_fill_133 (lv_at hl 0 rfl) ?_
          refine tw_iadd hx hb dX1_fill_135 ?_
          refine lv_iload hx hb dX1_fill_136 (lv_at hl 6 rfl) ?_
          refine tw_icmp_gt (tgt := 195) hx hb (by omega) (by omega) dX1_fill_138 (by decide) (fun c_138 => ?_) (fun c_138 => ?_)
          · 
            have hk3 : k = a - i := by omega
            subst hk3
            have hE : (mw q d lt cn ge gu op le ((m_g1 op le i j ((i * 11 + j) * 3 + la) (a - i) (m_f2 lt ge gu how a b i j la (sc, ct))).1) ((m_g1 op le i j ((i * 11 + j) * 3 + la) (a - i) (m_f2 lt ge gu how a b i j la (sc, ct))).2)) = (mw q d lt cn ge gu op le ((m_f3 lt ge gu op le how a b i j la (sc, ct)).1) ((m_f3 lt ge gu op le how a b i j la (sc, ct)).2)) := by rw [hh]
            rw [hE] at hP hD
            clear hE
            exact j195 _ _ _ hP hD hS (lv_sub hl [1, 2, 3, 4, 5, 6, 7, 8] rfl)
          · 
            refine lv_iload_n hx hb dX1_fill_141 rfl (lv_at hl 3 rfl) ?_
            refine lv_iload hx hb dX1_fill_142 (lv_at hl 0 rfl) ?_
            refine tw_iadd hx hb dX1_fill_144 ?_
            refine lv_bipush (v := nI 11) hx hb dX1_fill_145 (by decide +kernel) ?_
            refine tw_imul hx hb dX1_fill_147 ?_
            refine lv_iload_n hx hb dX1_fill_148 rfl (lv_at hl 4 rfl) ?_
            refine tw_iadd hx hb dX1_fill_149 ?_
            refine lv_iconst (v := nI 3) hx hb dX1_fill_150 (by decide +kernel) ?_
            refine tw_imul hx hb dX1_fill_151 ?_
            refine lv_iconst (v := nI 1) hx hb dX1_fill_152 (by decide +kernel) ?_
            refine tw_iadd hx hb dX1_fill_153 ?_
            refine lv_istore (lv' := [(9, .int (nI (((i + (k + 1)) * 11 + j) * 3 + 1))), (8, .int (nI (k + 1))), (7, .int (nI ((i * 11 + j) * 3 + la))), (0, .ref (q 0)), (1, .int (nI i)), (2, .int (nI j)), (3, .int (nI la)), (4, .int (nI a)), (5, .int (nI b)), (6, .int (nI how))]) hx hb dX1_fill_154 hl (by decide) rfl (fun ls hl => ?_)
            refine lv_aload_n hx hb dX1_fill_156 rfl (lv_at hl 3 rfl) ?_
            refine lv_iload hx hb dX1_fill_157 (lv_at hl 2 rfl) ?_
            refine lv_aload_n hx hb dX1_fill_159 rfl (lv_at hl 3 rfl) ?_
            refine va_get (D := D) (ci := 1) (v := .ref (q 3)) (C := RX1) (T := TX1) (N := 8) hx hb hts in_X1 hown hK hP 0 rfl rfl 6 (by decide) (hts _ q175) (fun _ h9 => h9) rfl dX1_fill_160 ?_
            refine lv_iload hx hb dX1_fill_163 (lv_at hl 0 rfl) ?_
            refine tw_iald hx hb hK hP 3 2 rfl rfl (by omega) (by decide) dX1_fill_165 ?_
            refine lv_aload_n hx hb dX1_fill_166 rfl (lv_at hl 3 rfl) ?_
            refine va_get (D := D) (ci := 1) (v := .int op) (C := RX1) (T := TX1) (N := 8) hx hb hts in_X1 hown hK hP 0 rfl rfl 4 (by decide) (hts _ q173) (fun _ h9 => h9) rfl dX1_fill_167 ?_
            refine lv_isub hx hb dX1_fill_170 ?_
            refine lv_iload hx hb dX1_fill_171 (lv_at hl 1 rfl) ?_
            refine lv_aload_n hx hb dX1_fill_173 rfl (lv_at hl 3 rfl) ?_
            refine va_get (D := D) (ci := 1) (v := .int le) (C := RX1) (T := TX1) (N := 8) hx hb hts in_X1 hown hK hP 0 rfl rfl 5 (by decide) (hts _ q174) (fun _ h9 => h9) rfl dX1_fill_174 ?_
            refine lv_imul hx hb dX1_fill_177 ?_
            refine lv_isub hx hb dX1_fill_178 ?_
            refine lv_aload_n hx hb dX1_fill_179 rfl (lv_at hl 3 rfl) ?_
            refine va_get (D := D) (ci := 1) (v := .ref (q 4)) (C := RX1) (T := TX1) (N := 8) hx hb hts in_X1 hown hK hP 0 rfl rfl 7 (by decide) (hts _ q176) (fun _ h9 => h9) rfl dX1_fill_180 ?_
            refine lv_iload hx hb dX1_fill_183 (lv_at hl 0 rfl) ?_
            refine tw_iald hx hb hK hP 4 3 rfl rfl (by omega) (by decide) dX1_fill_185 ?_
            refine tw_callv (n := 3) (rest := []) (wr := []) (w' := (mw q d lt cn ge gu op le ((m_off (((m_g1 op le i j ((i * 11 + j) * 3 + la) k (m_f2 lt ge gu how a b i j la (sc, ct))).1), ((m_g1 op le i j ((i * 11 + j) * 3 + la) k (m_f2 lt ge gu how a b i j la (sc, ct))).2)) ((i * 11 + j) * 3 + la) (((m_g1 op le i j ((i * 11 + j) * 3 + la) k (m_f2 lt ge gu how a b i j la (sc, ct))).1) (((i + (k + 1)) * 11 + j) * 3 + 1) - op - nI (k + 1) * le) (((m_g1 op le i j ((i * 11 + j) * 3 + la) k (m_f2 lt ge gu how a b i j la (sc, ct))).2) (((i + (k + 1)) * 11 + j) * 3 + 1))).1) ((m_off (((m_g1 op le i j ((i * 11 + j) * 3 + la) k (m_f2 lt ge gu how a b i j la (sc, ct))).1), ((m_g1 op le i j ((i * 11 + j) * 3 + la) k (m_f2 lt ge gu how a b i j la (sc, ct))).2)) ((i * 11 + j) * 3 + la) (((m_g1 op le i j ((i * 11 + j) * 3 + la) k (m_f2 lt ge gu how a b i j la (sc, ct))).1) (((i + (k + 1)) * 11 + j) * 3 + 1) - op - nI (k + 1) * le) (((m_g1 op le i j ((i * 11 + j) * 3 + la) k (m_f2 lt ge gu how a b i j la (sc, ct))).2) (((i + (k + 1)) * 11 + j) * 3 + 1))).2))) (kX1_offer l D q d lt cn ge gu op le ((m_g1 op le i j ((i * 11 + j) * 3 + la) k (m_f2 lt ge gu how a b i j la (sc, ct))).1) ((m_g1 op le i j ((i * 11 + j) * 3 + la) k (m_f2 lt ge gu how a b i j la (sc, ct))).2) ((i * 11 + j) * 3 + la) (((m_g1 op le i j ((i * 11 + j) * 3 + la) k (m_f2 lt ge gu how a b i j la (sc, ct))).1) (((i + (k + 1)) * 11 + j) * 3 + 1) - op - nI (k + 1) * le) (((m_g1 op le i j ((i * 11 + j) * 3 + la) k (m_f2 lt ge gu how a b i j la (sc, ct))).2) (((i + (k + 1)) * 11 + j) * 3 + 1)) (by omega)) S (lw_V q219 q221 qs14 q21 q222) (by decide +kernel) ⟨Nat.le_of_ble_eq_true rfl, Nat.le_of_ble_eq_true rfl⟩ hK hP hD hS hA [0, 1, 2, 3, 4] [] [0, 1, 2, 3] rfl rfl (by decide) (by decide) (fun i h => absurd h List.not_mem_nil) rfl (ci := 1) rfl (q0 := 0) rfl rfl rfl hl.1 (Nat.le_of_ble_eq_true rfl) dX1_fill_186 ⟨Nat.zero_le _, Nat.zero_le _⟩ (fun H locs hP hD hS => ?_)
            have hP : va_P D vwCl (mw q d lt cn ge gu op le ((m_off (((m_g1 op le i j ((i * 11 + j) * 3 + la) k (m_f2 lt ge gu how a b i j la (sc, ct))).1), ((m_g1 op le i j ((i * 11 + j) * 3 + la) k (m_f2 lt ge gu how a b i j la (sc, ct))).2)) ((i * 11 + j) * 3 + la) (((m_g1 op le i j ((i * 11 + j) * 3 + la) k (m_f2 lt ge gu how a b i j la (sc, ct))).1) (((i + (k + 1)) * 11 + j) * 3 + 1) - op - nI (k + 1) * le) (((m_g1 op le i j ((i * 11 + j) * 3 + la) k (m_f2 lt ge gu how a b i j la (sc, ct))).2) (((i + (k + 1)) * 11 + j) * 3 + 1))).1) ((m_off (((m_g1 op le i j ((i * 11 + j) * 3 + la) k (m_f2 lt ge gu how a b i j la (sc, ct))).1), ((m_g1 op le i j ((i * 11 + j) * 3 + la) k (m_f2 lt ge gu how a b i j la (sc, ct))).2)) ((i * 11 + j) * 3 + la) (((m_g1 op le i j ((i * 11 + j) * 3 + la) k (m_f2 lt ge gu how a b i j la (sc, ct))).1) (((i + (k + 1)) * 11 + j) * 3 + 1) - op - nI (k + 1) * le) (((m_g1 op le i j ((i * 11 + j) * 3 + la) k (m_f2 lt ge gu how a b i j la (sc, ct))).2) (((i + (k + 1)) * 11 + j) * 3 + 1))).2)) H := hP
            have hD : va_D A (mw q d lt cn ge gu op le ((m_off (((m_g1 op le i j ((i * 11 + j) * 3 + la) k (m_f2 lt ge gu how a b i j la (sc, ct))).1), ((m_g1 op le i j ((i * 11 + j) * 3 + la) k (m_f2 lt ge gu how a b i j la (sc, ct))).2)) ((i * 11 + j) * 3 + la) (((m_g1 op le i j ((i * 11 + j) * 3 + la) k (m_f2 lt ge gu how a b i j la (sc, ct))).1) (((i + (k + 1)) * 11 + j) * 3 + 1) - op - nI (k + 1) * le) (((m_g1 op le i j ((i * 11 + j) * 3 + la) k (m_f2 lt ge gu how a b i j la (sc, ct))).2) (((i + (k + 1)) * 11 + j) * 3 + 1))).1) ((m_off (((m_g1 op le i j ((i * 11 + j) * 3 + la) k (m_f2 lt ge gu how a b i j la (sc, ct))).1), ((m_g1 op le i j ((i * 11 + j) * 3 + la) k (m_f2 lt ge gu how a b i j la (sc, ct))).2)) ((i * 11 + j) * 3 + la) (((m_g1 op le i j ((i * 11 + j) * 3 + la) k (m_f2 lt ge gu how a b i j la (sc, ct))).1) (((i + (k + 1)) * 11 + j) * 3 + 1) - op - nI (k + 1) * le) (((m_g1 op le i j ((i * 11 + j) * 3 + la) k (m_f2 lt ge gu how a b i j la (sc, ct))).2) (((i + (k + 1)) * 11 + j) * 3 + 1))).2)) := hD
            refine tw_iinc (lv' := [(8, .int (nI ((k + 1) + 1))), (9, .int (nI (((i + (k + 1)) * 11 + j) * 3 + 1))), (7, .int (nI ((i * 11 + j) * 3 + la))), (0, .ref (q 0)), (1, .int (nI i)), (2, .int (nI j)), (3, .int (nI la)), (4, .int (nI a)), (5, .int (nI b)), (6, .int (nI how))]) hx hb dX1_fill_189 hl (k := 1) rfl (by decide) rfl (fun ls hl => ?_)
            refine lv_goto (tgt := 127) hx hb dX1_fill_192 (by decide) ?_
            exact ih (k + 1) (by omega) (by omega) _ _ _ hP hD hS (lv_sub hl [0, 2, 3, 4, 5, 6, 7, 8, 9] rfl)
      refine lv_iconst (v := nI 1) hx hb dX1_fill_124 (by decide +kernel) ?_
      refine lv_istore (lv' := [(8, .int (nI 1)), (7, .int (nI ((i * 11 + j) * 3 + la))), (0, .ref (q 0)), (1, .int (nI i)), (2, .int (nI j)), (3, .int (nI la)), (4, .int (nI a)), (5, .int (nI b)), (6, .int (nI how))]) hx hb dX1_fill_125 hl (by decide) rfl (fun ls hl => ?_)
      exact loop (a - i + 1) 0 (by omega) (by omega) _ _ _ hP hD hS (lv_sub hl [0, 1, 2, 3, 4, 5, 6, 7, 8] rfl)
  have j67 : ∀ (H : Heap) (locs : List Loc) (ls : Array Slot), va_P D vwCl (mw q d lt cn ge gu op le ((m_f1 how a b i j la (sc, ct)).1) ((m_f1 how a b i j la (sc, ct)).2)) H → va_D A (mw q d lt cn ge gu op le ((m_f1 how a b i j la (sc, ct)).1) ((m_f1 how a b i j la (sc, ct)).2)) → va_S A s.heap H locs → lv_has ls 10 [(7, .int (nI ((i * 11 + j) * 3 + la))), (0, .ref (q 0)), (1, .int (nI i)), (2, .int (nI j)), (3, .int (nI la)), (4, .int (nI a)), (5, .int (nI b)), (6, .int (nI how))] → W p l e (tw_rm 1 23) s m ([.ref (q 0), .int (nI i), .int (nI j), .int (nI la), .int (nI a), .int (nI b), .int (nI how)] : List Value).toArray below meth c H locs 0 0 (MQ below (tw_Qv D vwCl (mt d) (mw q d lt cn ge gu op le ((m_fil lt ge gu op le how a b i j la (sc, ct)).1) ((m_fil lt ge gu op le how a b i j la (sc, ct)).2)) A) ([.ref (q 0), .int (nI i), .int (nI j), .int (nI la), .int (nI a), .int (nI b), .int (nI how)] : List Value).toArray s 0 0 A) (F0 m 67 ls []) := by
    intro H locs ls hP hD hS hl
    refine lv_iload_n hx hb dX1_fill_67 rfl (lv_at hl 2 rfl) ?_
    refine lv_iload hx hb dX1_fill_68 (lv_at hl 5 rfl) ?_
    refine tw_icmp_ge (tgt := 124) hx hb (by omega) (by omega) dX1_fill_70 (by decide) (fun c_70 => ?_) (fun c_70 => ?_)
    · 
      have hh : m_f2 lt ge gu how a b i j la (sc, ct) = m_f1 how a b i j la (sc, ct) := if_neg (by omega)
      have hE : (mw q d lt cn ge gu op le ((m_f1 how a b i j la (sc, ct)).1) ((m_f1 how a b i j la (sc, ct)).2)) = (mw q d lt cn ge gu op le ((m_f2 lt ge gu how a b i j la (sc, ct)).1) ((m_f2 lt ge gu how a b i j la (sc, ct)).2)) := by rw [hh]
      rw [hE] at hP hD
      clear hE
      exact j124 _ _ _ hP hD hS (lv_sub hl [0, 1, 2, 3, 4, 5, 6, 7] rfl)
    · 
      refine lv_iload_n hx hb dX1_fill_73 rfl (lv_at hl 3 rfl) ?_
      refine lv_iload hx hb dX1_fill_74 (lv_at hl 6 rfl) ?_
      refine tw_icmp_ge (tgt := 124) hx hb (by omega) (by omega) dX1_fill_76 (by decide) (fun c_76 => ?_) (fun c_76 => ?_)
      · 
        have hh : m_f2 lt ge gu how a b i j la (sc, ct) = m_f1 how a b i j la (sc, ct) := if_neg (by omega)
        have hE : (mw q d lt cn ge gu op le ((m_f1 how a b i j la (sc, ct)).1) ((m_f1 how a b i j la (sc, ct)).2)) = (mw q d lt cn ge gu op le ((m_f2 lt ge gu how a b i j la (sc, ct)).1) ((m_f2 lt ge gu how a b i j la (sc, ct)).2)) := by rw [hh]
        rw [hE] at hP hD
        clear hE
        exact j124 _ _ _ hP hD hS (lv_sub hl [0, 1, 2, 3, 4, 5, 6, 7] rfl)
      · 
        refine lv_iload_n hx hb dX1_fill_79 rfl (lv_at hl 2 rfl) ?_
        refine lv_iconst (v := nI 1) hx hb dX1_fill_80 (by decide +kernel) ?_
        refine tw_iadd hx hb dX1_fill_81 ?_
        refine lv_bipush (v := nI 11) hx hb dX1_fill_82 (by decide +kernel) ?_
        refine tw_imul hx hb dX1_fill_84 ?_
        refine lv_iload_n hx hb dX1_fill_85 rfl (lv_at hl 3 rfl) ?_
        refine tw_iadd hx hb dX1_fill_86 ?_
        refine lv_iconst (v := nI 1) hx hb dX1_fill_87 (by decide +kernel) ?_
        refine tw_iadd hx hb dX1_fill_88 ?_
        refine lv_iconst (v := nI 3) hx hb dX1_fill_89 (by decide +kernel) ?_
        refine tw_imul hx hb dX1_fill_90 ?_
        refine lv_istore (lv' := [(8, .int (nI (((i + 1) * 11 + j + 1) * 3))), (7, .int (nI ((i * 11 + j) * 3 + la))), (0, .ref (q 0)), (1, .int (nI i)), (2, .int (nI j)), (3, .int (nI la)), (4, .int (nI a)), (5, .int (nI b)), (6, .int (nI how))]) hx hb dX1_fill_91 hl (by decide) rfl (fun ls hl => ?_)
        refine lv_aload_n hx hb dX1_fill_93 rfl (lv_at hl 2 rfl) ?_
        refine va_get (D := D) (ci := 1) (v := .ref (q 3)) (C := RX1) (T := TX1) (N := 8) hx hb hts in_X1 hown hK hP 0 rfl rfl 6 (by decide) (hts _ q175) (fun _ h9 => h9) rfl dX1_fill_94 ?_
        refine lv_iload hx hb dX1_fill_97 (lv_at hl 0 rfl) ?_
        refine tw_iald hx hb hK hP 3 2 rfl rfl (by omega) (by decide) dX1_fill_99 ?_
        refine lv_aload_n hx hb dX1_fill_100 rfl (lv_at hl 2 rfl) ?_
        refine lv_iload_n hx hb dX1_fill_101 rfl (lv_at hl 3 rfl) ?_
        refine lv_iload_n hx hb dX1_fill_102 rfl (lv_at hl 4 rfl) ?_
        refine tw_calli (n := 2) (rest := [.int (((m_f1 how a b i j la (sc, ct)).1) (((i + 1) * 11 + j + 1) * 3))]) (wr := []) (w' := (mw q d lt cn ge gu op le ((m_f1 how a b i j la (sc, ct)).1) ((m_f1 how a b i j la (sc, ct)).2))) (kX1_gain l D q d lt cn ge gu op le ((m_f1 how a b i j la (sc, ct)).1) ((m_f1 how a b i j la (sc, ct)).2) i j (by omega) (by omega)) S (lw_V q224 q226 qs15 q21 q227) (by decide +kernel) ⟨Nat.le_of_ble_eq_true rfl, Nat.le_of_ble_eq_true rfl⟩ hK hP hD hS hA [0, 1, 2, 3, 4] [] [0, 1, 2, 3] rfl rfl (by decide) (by decide) (fun i h => absurd h List.not_mem_nil) rfl (ci := 1) rfl (q0 := 0) rfl rfl rfl hl.1 (Nat.le_of_ble_eq_true rfl) dX1_fill_103 ⟨Nat.zero_le _, Nat.zero_le _⟩ (fun H locs hP hD hS => ?_)
        have hP : va_P D vwCl (mw q d lt cn ge gu op le ((m_f1 how a b i j la (sc, ct)).1) ((m_f1 how a b i j la (sc, ct)).2)) H := hP
        have hD : va_D A (mw q d lt cn ge gu op le ((m_f1 how a b i j la (sc, ct)).1) ((m_f1 how a b i j la (sc, ct)).2)) := hD
        refine lv_iadd hx hb dX1_fill_106 ?_
        refine lv_istore (lv' := [(9, .int (((m_f1 how a b i j la (sc, ct)).1) (((i + 1) * 11 + j + 1) * 3) + (x_gain lt ge gu i j))), (8, .int (nI (((i + 1) * 11 + j + 1) * 3))), (7, .int (nI ((i * 11 + j) * 3 + la))), (0, .ref (q 0)), (1, .int (nI i)), (2, .int (nI j)), (3, .int (nI la)), (4, .int (nI a)), (5, .int (nI b)), (6, .int (nI how))]) hx hb dX1_fill_107 hl (by decide) rfl (fun ls hl => ?_)
        refine lv_aload_n hx hb dX1_fill_109 rfl (lv_at hl 3 rfl) ?_
        refine lv_iload hx hb dX1_fill_110 (lv_at hl 2 rfl) ?_
        refine lv_iload hx hb dX1_fill_112 (lv_at hl 0 rfl) ?_
        refine lv_aload_n hx hb dX1_fill_114 rfl (lv_at hl 3 rfl) ?_
        refine va_get (D := D) (ci := 1) (v := .ref (q 4)) (C := RX1) (T := TX1) (N := 8) hx hb hts in_X1 hown hK hP 0 rfl rfl 7 (by decide) (hts _ q176) (fun _ h9 => h9) rfl dX1_fill_115 ?_
        refine lv_iload hx hb dX1_fill_118 (lv_at hl 1 rfl) ?_
        refine tw_iald hx hb hK hP 4 3 rfl rfl (by omega) (by decide) dX1_fill_120 ?_
        refine tw_callv (n := 3) (rest := []) (wr := []) (w' := (mw q d lt cn ge gu op le ((m_off (((m_f1 how a b i j la (sc, ct)).1), ((m_f1 how a b i j la (sc, ct)).2)) ((i * 11 + j) * 3 + la) (((m_f1 how a b i j la (sc, ct)).1) (((i + 1) * 11 + j + 1) * 3) + (x_gain lt ge gu i j)) (((m_f1 how a b i j la (sc, ct)).2) (((i + 1) * 11 + j + 1) * 3))).1) ((m_off (((m_f1 how a b i j la (sc, ct)).1), ((m_f1 how a b i j la (sc, ct)).2)) ((i * 11 + j) * 3 + la) (((m_f1 how a b i j la (sc, ct)).1) (((i + 1) * 11 + j + 1) * 3) + (x_gain lt ge gu i j)) (((m_f1 how a b i j la (sc, ct)).2) (((i + 1) * 11 + j + 1) * 3))).2))) (kX1_offer l D q d lt cn ge gu op le ((m_f1 how a b i j la (sc, ct)).1) ((m_f1 how a b i j la (sc, ct)).2) ((i * 11 + j) * 3 + la) (((m_f1 how a b i j la (sc, ct)).1) (((i + 1) * 11 + j + 1) * 3) + (x_gain lt ge gu i j)) (((m_f1 how a b i j la (sc, ct)).2) (((i + 1) * 11 + j + 1) * 3)) (by omega)) S (lw_V q219 q221 qs14 q21 q222) (by decide +kernel) ⟨Nat.le_of_ble_eq_true rfl, Nat.le_of_ble_eq_true rfl⟩ hK hP hD hS hA [0, 1, 2, 3, 4] [] [0, 1, 2, 3] rfl rfl (by decide) (by decide) (fun i h => absurd h List.not_mem_nil) rfl (ci := 1) rfl (q0 := 0) rfl rfl rfl hl.1 (Nat.le_of_ble_eq_true rfl) dX1_fill_121 ⟨Nat.zero_le _, Nat.zero_le _⟩ (fun H locs hP hD hS => ?_)
        have hP : va_P D vwCl (mw q d lt cn ge gu op le ((m_off (((m_f1 how a b i j la (sc, ct)).1), ((m_f1 how a b i j la (sc, ct)).2)) ((i * 11 + j) * 3 + la) (((m_f1 how a b i j la (sc, ct)).1) (((i + 1) * 11 + j + 1) * 3) + (x_gain lt ge gu i j)) (((m_f1 how a b i j la (sc, ct)).2) (((i + 1) * 11 + j + 1) * 3))).1) ((m_off (((m_f1 how a b i j la (sc, ct)).1), ((m_f1 how a b i j la (sc, ct)).2)) ((i * 11 + j) * 3 + la) (((m_f1 how a b i j la (sc, ct)).1) (((i + 1) * 11 + j + 1) * 3) + (x_gain lt ge gu i j)) (((m_f1 how a b i j la (sc, ct)).2) (((i + 1) * 11 + j + 1) * 3))).2)) H := hP
        have hD : va_D A (mw q d lt cn ge gu op le ((m_off (((m_f1 how a b i j la (sc, ct)).1), ((m_f1 how a b i j la (sc, ct)).2)) ((i * 11 + j) * 3 + la) (((m_f1 how a b i j la (sc, ct)).1) (((i + 1) * 11 + j + 1) * 3) + (x_gain lt ge gu i j)) (((m_f1 how a b i j la (sc, ct)).2) (((i + 1) * 11 + j + 1) * 3))).1) ((m_off (((m_f1 how a b i j la (sc, ct)).1), ((m_f1 how a b i j la (sc, ct)).2)) ((i * 11 + j) * 3 + la) (((m_f1 how a b i j la (sc, ct)).1) (((i + 1) * 11 + j + 1) * 3) + (x_gain lt ge gu i j)) (((m_f1 how a b i j la (sc, ct)).2) (((i + 1) * 11 + j + 1) * 3))).2)) := hD
        have hh : m_f2 lt ge gu how a b i j la (sc, ct) = m_off (m_f1 how a b i j la (sc, ct)) ((i * 11 + j) * 3 + la) ((m_f1 how a b i j la (sc, ct)).1 (((i + 1) * 11 + j + 1) * 3) + x_gain lt ge gu i j) ((m_f1 how a b i j la (sc, ct)).2 (((i + 1) * 11 + j + 1) * 3)) := if_pos ⟨c_70, c_76⟩
        have hE : (mw q d lt cn ge gu op le ((m_off (((m_f1 how a b i j la (sc, ct)).1), ((m_f1 how a b i j la (sc, ct)).2)) ((i * 11 + j) * 3 + la) (((m_f1 how a b i j la (sc, ct)).1) (((i + 1) * 11 + j + 1) * 3) + (x_gain lt ge gu i j)) (((m_f1 how a b i j la (sc, ct)).2) (((i + 1) * 11 + j + 1) * 3))).1) ((m_off (((m_f1 how a b i j la (sc, ct)).1), ((m_f1 how a b i j la (sc, ct)).2)) ((i * 11 + j) * 3 + la) (((m_f1 how a b i j la (sc, ct)).1) (((i + 1) * 11 + j + 1) * 3) + (x_gain lt ge gu i j)) (((m_f1 how a b i j la (sc, ct)).2) (((i + 1) * 11 + j + 1) * 3))).2)) = (mw q d lt cn ge gu op le ((m_f2 lt ge gu how a b i j la (sc, ct)).1) ((m_f2 lt ge gu how a b i j la (sc, ct)).2)) := by first | (rw [hh]; done) | (rw [hh]; rfl)
        rw [hE] at hP hD
        clear hE
        exact j124 _ _ _ hP hD hS (lv_sub hl [2, 3, 4, 5, 6, 7, 8, 9] rfl)
  have j59 : ((i = a ∧ j = b) ∨ how = 1 ∨ (how = 2 ∧ i = a)) → ∀ (H : Heap) (locs : List Loc) (ls : Array Slot), va_P D vwCl (mw q d lt cn ge gu op le ((m_ini ((i * 11 + j) * 3 + la) (sc, ct)).1) ((m_ini ((i * 11 + j) * 3 + la) (sc, ct)).2)) H → va_D A (mw q d lt cn ge gu op le ((m_ini ((i * 11 + j) * 3 + la) (sc, ct)).1) ((m_ini ((i * 11 + j) * 3 + la) (sc, ct)).2)) → va_S A s.heap H locs → lv_has ls 10 [(7, .int (nI ((i * 11 + j) * 3 + la))), (0, .ref (q 0)), (1, .int (nI i)), (2, .int (nI j)), (3, .int (nI la)), (4, .int (nI a)), (5, .int (nI b)), (6, .int (nI how))] → W p l e (tw_rm 1 23) s m ([.ref (q 0), .int (nI i), .int (nI j), .int (nI la), .int (nI a), .int (nI b), .int (nI how)] : List Value).toArray below meth c H locs 0 0 (MQ below (tw_Qv D vwCl (mt d) (mw q d lt cn ge gu op le ((m_fil lt ge gu op le how a b i j la (sc, ct)).1) ((m_fil lt ge gu op le how a b i j la (sc, ct)).2)) A) ([.ref (q 0), .int (nI i), .int (nI j), .int (nI la), .int (nI a), .int (nI b), .int (nI how)] : List Value).toArray s 0 0 A) (F0 m 59 ls []) := by
    intro hc H locs ls hP hD hS hl
    refine lv_aload_n hx hb dX1_fill_59 rfl (lv_at hl 1 rfl) ?_
    refine lv_iload hx hb dX1_fill_60 (lv_at hl 0 rfl) ?_
    refine lv_iconst (v := nI 0) hx hb dX1_fill_62 (by decide +kernel) ?_
    refine lv_iconst (v := nI 1) hx hb dX1_fill_63 (by decide +kernel) ?_
    refine tw_callv (n := 3) (rest := []) (wr := []) (w' := (mw q d lt cn ge gu op le ((m_off (((m_ini ((i * 11 + j) * 3 + la) (sc, ct)).1), ((m_ini ((i * 11 + j) * 3 + la) (sc, ct)).2)) ((i * 11 + j) * 3 + la) (nI 0) (nI 1)).1) ((m_off (((m_ini ((i * 11 + j) * 3 + la) (sc, ct)).1), ((m_ini ((i * 11 + j) * 3 + la) (sc, ct)).2)) ((i * 11 + j) * 3 + la) (nI 0) (nI 1)).2))) (kX1_offer l D q d lt cn ge gu op le ((m_ini ((i * 11 + j) * 3 + la) (sc, ct)).1) ((m_ini ((i * 11 + j) * 3 + la) (sc, ct)).2) ((i * 11 + j) * 3 + la) (nI 0) (nI 1) (by omega)) S (lw_V q219 q221 qs14 q21 q222) (by decide +kernel) ⟨Nat.le_of_ble_eq_true rfl, Nat.le_of_ble_eq_true rfl⟩ hK hP hD hS hA [0, 1, 2, 3, 4] [] [0, 1, 2, 3] rfl rfl (by decide) (by decide) (fun i h => absurd h List.not_mem_nil) rfl (ci := 1) rfl (q0 := 0) rfl rfl rfl hl.1 (Nat.le_of_ble_eq_true rfl) dX1_fill_64 ⟨Nat.zero_le _, Nat.zero_le _⟩ (fun H locs hP hD hS => ?_)
    have hP : va_P D vwCl (mw q d lt cn ge gu op le ((m_off (((m_ini ((i * 11 + j) * 3 + la) (sc, ct)).1), ((m_ini ((i * 11 + j) * 3 + la) (sc, ct)).2)) ((i * 11 + j) * 3 + la) (nI 0) (nI 1)).1) ((m_off (((m_ini ((i * 11 + j) * 3 + la) (sc, ct)).1), ((m_ini ((i * 11 + j) * 3 + la) (sc, ct)).2)) ((i * 11 + j) * 3 + la) (nI 0) (nI 1)).2)) H := hP
    have hD : va_D A (mw q d lt cn ge gu op le ((m_off (((m_ini ((i * 11 + j) * 3 + la) (sc, ct)).1), ((m_ini ((i * 11 + j) * 3 + la) (sc, ct)).2)) ((i * 11 + j) * 3 + la) (nI 0) (nI 1)).1) ((m_off (((m_ini ((i * 11 + j) * 3 + la) (sc, ct)).1), ((m_ini ((i * 11 + j) * 3 + la) (sc, ct)).2)) ((i * 11 + j) * 3 + la) (nI 0) (nI 1)).2)) := hD
    have hh : m_f1 how a b i j la (sc, ct) = m_off (m_ini ((i * 11 + j) * 3 + la) (sc, ct)) ((i * 11 + j) * 3 + la) (nI 0) (nI 1) := if_pos hc
    have hE : (mw q d lt cn ge gu op le ((m_off (((m_ini ((i * 11 + j) * 3 + la) (sc, ct)).1), ((m_ini ((i * 11 + j) * 3 + la) (sc, ct)).2)) ((i * 11 + j) * 3 + la) (nI 0) (nI 1)).1) ((m_off (((m_ini ((i * 11 + j) * 3 + la) (sc, ct)).1), ((m_ini ((i * 11 + j) * 3 + la) (sc, ct)).2)) ((i * 11 + j) * 3 + la) (nI 0) (nI 1)).2)) = (mw q d lt cn ge gu op le ((m_f1 how a b i j la (sc, ct)).1) ((m_f1 how a b i j la (sc, ct)).2)) := by first | (rw [hh]; done) | (rw [hh]; rfl)
    rw [hE] at hP hD
    clear hE
    exact j67 _ _ _ hP hD hS (lv_sub hl [0, 1, 2, 3, 4, 5, 6, 7] rfl)
  have j67n : ¬ ((i = a ∧ j = b) ∨ how = 1 ∨ (how = 2 ∧ i = a)) → ∀ (H : Heap) (locs : List Loc) (ls : Array Slot), va_P D vwCl (mw q d lt cn ge gu op le ((m_ini ((i * 11 + j) * 3 + la) (sc, ct)).1) ((m_ini ((i * 11 + j) * 3 + la) (sc, ct)).2)) H → va_D A (mw q d lt cn ge gu op le ((m_ini ((i * 11 + j) * 3 + la) (sc, ct)).1) ((m_ini ((i * 11 + j) * 3 + la) (sc, ct)).2)) → va_S A s.heap H locs → lv_has ls 10 [(7, .int (nI ((i * 11 + j) * 3 + la))), (0, .ref (q 0)), (1, .int (nI i)), (2, .int (nI j)), (3, .int (nI la)), (4, .int (nI a)), (5, .int (nI b)), (6, .int (nI how))] → W p l e (tw_rm 1 23) s m ([.ref (q 0), .int (nI i), .int (nI j), .int (nI la), .int (nI a), .int (nI b), .int (nI how)] : List Value).toArray below meth c H locs 0 0 (MQ below (tw_Qv D vwCl (mt d) (mw q d lt cn ge gu op le ((m_fil lt ge gu op le how a b i j la (sc, ct)).1) ((m_fil lt ge gu op le how a b i j la (sc, ct)).2)) A) ([.ref (q 0), .int (nI i), .int (nI j), .int (nI la), .int (nI a), .int (nI b), .int (nI how)] : List Value).toArray s 0 0 A) (F0 m 67 ls []) := by
    intro hc H locs ls hP hD hS hl
    have hh : m_f1 how a b i j la (sc, ct) = m_ini ((i * 11 + j) * 3 + la) (sc, ct) := if_neg hc
    have hE : (mw q d lt cn ge gu op le ((m_ini ((i * 11 + j) * 3 + la) (sc, ct)).1) ((m_ini ((i * 11 + j) * 3 + la) (sc, ct)).2)) = (mw q d lt cn ge gu op le ((m_f1 how a b i j la (sc, ct)).1) ((m_f1 how a b i j la (sc, ct)).2)) := by rw [hh]
    rw [hE] at hP hD
    clear hE
    exact j67 _ _ _ hP hD hS (lv_sub hl [0, 1, 2, 3, 4, 5, 6, 7] rfl)
  have j41 : ¬ (i = a ∧ j = b) → ∀ (H : Heap) (locs : List Loc) (ls : Array Slot), va_P D vwCl (mw q d lt cn ge gu op le ((m_ini ((i * 11 + j) * 3 + la) (sc, ct)).1) ((m_ini ((i * 11 + j) * 3 + la) (sc, ct)).2)) H → va_D A (mw q d lt cn ge gu op le ((m_ini ((i * 11 + j) * 3 + la) (sc, ct)).1) ((m_ini ((i * 11 + j) * 3 + la) (sc, ct)).2)) → va_S A s.heap H locs → lv_has ls 10 [(7, .int (nI ((i * 11 + j) * 3 + la))), (0, .ref (q 0)), (1, .int (nI i)), (2, .int (nI j)), (3, .int (nI la)), (4, .int (nI a)), (5, .int (nI b)), (6, .int (nI how))] → W p l e (tw_rm 1 23) s m ([.ref (q 0), .int (nI i), .int (nI j), .int (nI la), .int (nI a), .int (nI b), .int (nI how)] : List Value).toArray below meth c H locs 0 0 (MQ below (tw_Qv D vwCl (mt d) (mw q d lt cn ge gu op le ((m_fil lt ge gu op le how a b i j la (sc, ct)).1) ((m_fil lt ge gu op le how a b i j la (sc, ct)).2)) A) ([.ref (q 0), .int (nI i), .int (nI j), .int (nI la), .int (nI a), .int (nI b), .int (nI how)] : List Value).toArray s 0 0 A) (F0 m 41 ls []) := by
    intro hc H locs ls hP hD hS hl
    refine lv_iload hx hb dX1_fill_41 (lv_at hl 7 rfl) ?_
    refine lv_iconst (v := nI 1) hx hb dX1_fill_43 (by decide +kernel) ?_
    refine tw_icmp_eq (tgt := 59) hx hb (by omega) (by omega) dX1_fill_44 (by decide) (fun c_44 => ?_) (fun c_44 => ?_)
    · 
      exact j59 (Or.inr (Or.inl c_44)) _ _ _ hP hD hS (lv_sub hl [0, 1, 2, 3, 4, 5, 6, 7] rfl)
    · 
      refine lv_iload hx hb dX1_fill_47 (lv_at hl 7 rfl) ?_
      refine lv_iconst (v := nI 2) hx hb dX1_fill_49 (by decide +kernel) ?_
      refine tw_icmp_ne (tgt := 67) hx hb (by omega) (by omega) dX1_fill_50 (by decide) (fun c_50 => ?_) (fun c_50 => ?_)
      · 
        exact j67n (by omega) _ _ _ hP hD hS (lv_sub hl [0, 1, 2, 3, 4, 5, 6, 7] rfl)
      · 
        refine lv_iload_n hx hb dX1_fill_53 rfl (lv_at hl 2 rfl) ?_
        refine lv_iload hx hb dX1_fill_54 (lv_at hl 5 rfl) ?_
        refine tw_icmp_ne (tgt := 67) hx hb (by omega) (by omega) dX1_fill_56 (by decide) (fun c_56 => ?_) (fun c_56 => ?_)
        · 
          exact j67n (by omega) _ _ _ hP hD hS (lv_sub hl [0, 1, 2, 3, 4, 5, 6, 7] rfl)
        · 
          exact j59 (Or.inr (Or.inr ⟨c_50, c_56⟩)) _ _ _ hP hD hS (lv_sub hl [0, 1, 2, 3, 4, 5, 6, 7] rfl)
  refine lv_iload_n hx hb dX1_fill_0 rfl (lv_at hl 1 rfl) ?_
  refine lv_bipush (v := nI 11) hx hb dX1_fill_1 (by decide +kernel) ?_
  refine tw_imul hx hb dX1_fill_3 ?_
  refine lv_iload_n hx hb dX1_fill_4 rfl (lv_at hl 2 rfl) ?_
  refine tw_iadd hx hb dX1_fill_5 ?_
  refine lv_iconst (v := nI 3) hx hb dX1_fill_6 (by decide +kernel) ?_
  refine tw_imul hx hb dX1_fill_7 ?_
  refine lv_iload_n hx hb dX1_fill_8 rfl (lv_at hl 3 rfl) ?_
  refine tw_iadd hx hb dX1_fill_9 ?_
  refine lv_istore (lv' := [(7, .int (nI ((i * 11 + j) * 3 + la))), (0, .ref (q 0)), (1, .int (nI i)), (2, .int (nI j)), (3, .int (nI la)), (4, .int (nI a)), (5, .int (nI b)), (6, .int (nI how))]) hx hb dX1_fill_10 hl (by decide) rfl (fun ls hl => ?_)
  refine lv_aload_n hx hb dX1_fill_12 rfl (lv_at hl 1 rfl) ?_
  refine va_get (D := D) (ci := 1) (v := .ref (q 3)) (C := RX1) (T := TX1) (N := 8) hx hb hts in_X1 hown hK hP 0 rfl rfl 6 (by decide) (hts _ q175) (fun _ h9 => h9) rfl dX1_fill_13 ?_
  refine lv_iload hx hb dX1_fill_16 (lv_at hl 0 rfl) ?_
  refine lv_ldc (v := -100000) hx hb hown (hts _ q218) dX1_fill_18 ?_
  refine tw_iast hx hb hK hP hD hS 3 2 rfl rfl (by omega) (by decide) dX1_fill_20 (fun H locs hP hD hS => ?_)
  have hP : va_P D vwCl (mw q d lt cn ge gu op le (upd sc ((i * 11 + j) * 3 + la) (-100000)) ct) H := hP
  have hD : va_D A (mw q d lt cn ge gu op le (upd sc ((i * 11 + j) * 3 + la) (-100000)) ct) := hD
  refine lv_aload_n hx hb dX1_fill_21 rfl (lv_at hl 1 rfl) ?_
  refine va_get (D := D) (ci := 1) (v := .ref (q 4)) (C := RX1) (T := TX1) (N := 8) hx hb hts in_X1 hown hK hP 0 rfl rfl 7 (by decide) (hts _ q176) (fun _ h9 => h9) rfl dX1_fill_22 ?_
  refine lv_iload hx hb dX1_fill_25 (lv_at hl 0 rfl) ?_
  refine lv_iconst (v := nI 0) hx hb dX1_fill_27 (by decide +kernel) ?_
  refine tw_iast hx hb hK hP hD hS 4 3 rfl rfl (by omega) (by decide) dX1_fill_28 (fun H locs hP hD hS => ?_)
  have hP : va_P D vwCl (mw q d lt cn ge gu op le (upd sc ((i * 11 + j) * 3 + la) (-100000)) (upd ct ((i * 11 + j) * 3 + la) (nI 0))) H := hP
  have hD : va_D A (mw q d lt cn ge gu op le (upd sc ((i * 11 + j) * 3 + la) (-100000)) (upd ct ((i * 11 + j) * 3 + la) (nI 0))) := hD
  have hE : (mw q d lt cn ge gu op le (upd sc ((i * 11 + j) * 3 + la) (-100000)) (upd ct ((i * 11 + j) * 3 + la) (nI 0))) = (mw q d lt cn ge gu op le ((m_ini ((i * 11 + j) * 3 + la) (sc, ct)).1) ((m_ini ((i * 11 + j) * 3 + la) (sc, ct)).2)) := by rfl
  rw [hE] at hP hD
  clear hE
  refine lv_iload_n hx hb dX1_fill_29 rfl (lv_at hl 2 rfl) ?_
  refine lv_iload hx hb dX1_fill_30 (lv_at hl 5 rfl) ?_
  refine tw_icmp_ne (tgt := 41) hx hb (by omega) (by omega) dX1_fill_32 (by decide) (fun c_32 => ?_) (fun c_32 => ?_)
  · 
    exact j41 (by omega) _ _ _ hP hD hS (lv_sub hl [0, 1, 2, 3, 4, 5, 6, 7] rfl)
  · 
    refine lv_iload_n hx hb dX1_fill_35 rfl (lv_at hl 3 rfl) ?_
    refine lv_iload hx hb dX1_fill_36 (lv_at hl 6 rfl) ?_
    refine tw_icmp_eq (tgt := 59) hx hb (by omega) (by omega) dX1_fill_38 (by decide) (fun c_38 => ?_) (fun c_38 => ?_)
    · 
      exact j59 (Or.inl ⟨c_32, c_38⟩) _ _ _ hP hD hS (lv_sub hl [0, 1, 2, 3, 4, 5, 6, 7] rfl)
    · 
      exact j41 (by omega) _ _ _ hP hD hS (lv_sub hl [0, 1, 2, 3, 4, 5, 6, 7] rfl)
set_option maxHeartbeats 4000000 in
set_option maxRecDepth 100000 in
theorem kX1_work (a : Nat) (b : Nat) (how : Nat) (h1 : a ≤ 10) (h2 : b ≤ 10) (h3 : how < 3) : Cv l yX1_work cX1_work 6 2 52 D vwCl (mt d) [.ref (q 0), .int (nI a), .int (nI b), .int (nI how)] (mw q d lt cn ge gu op le sc ct) (mw q d lt cn ge gu op le ((m_wrk lt ge gu op le how a b (a + 1) (sc, ct)).1) ((m_wrk lt ge gu op le how a b (a + 1) (sc, ct)).2)) := by
  refine Cv.of (by decide +kernel) (Nat.le_of_ble_eq_true rfl) ?_
  intro p e s m below meth c A ls hx hb hr hlocks hml hown hts hK hP hD hS hA hl
  have hown : s.vm.findClass RX1 = some m.cls := hown
  have S : CallFix p m c cX1_work 6 s ([.ref (q 0), .int (nI a), .int (nI b), .int (nI how)] : List Value).toArray lw_all RX1 := ⟨hx, hb, hml, hown, hts⟩
  have hl : lv_has ls 6 [(0, .ref (q 0)), (1, .int (nI a)), (2, .int (nI b)), (3, .int (nI how))] := hl
  have loop : ∀ (k : Nat), k ≤ a + 1 → ∀ (t1 : al_T), m_wrk lt ge gu op le how a b k t1 = m_wrk lt ge gu op le how a b (a + 1) (sc, ct) → ∀ (H : Heap) (locs : List Loc) (ls : Array Slot), va_P D vwCl (mw q d lt cn ge gu op le t1.1 t1.2) H → va_D A (mw q d lt cn ge gu op le t1.1 t1.2) → va_S A s.heap H locs → lv_has ls 6 [(4, .int (nI k - 1)), (0, .ref (q 0)), (1, .int (nI a)), (2, .int (nI b)), (3, .int (nI how))] → W p l e (tw_rm 2 52) s m ([.ref (q 0), .int (nI a), .int (nI b), .int (nI how)] : List Value).toArray below meth c H locs 0 0 (MQ below (tw_Qv D vwCl (mt d) (mw q d lt cn ge gu op le ((m_wrk lt ge gu op le how a b (a + 1) (sc, ct)).1) ((m_wrk lt ge gu op le how a b (a + 1) (sc, ct)).2)) A) ([.ref (q 0), .int (nI a), .int (nI b), .int (nI how)] : List Value).toArray s 0 0 A) (F0 m 3 ls []) := by
    intro k
    induction k with
    | zero =>
      intro hk t1 hb0 H locs ls hP hD hS hl
      refine lv_iload hx hb dX1_work_3 (lv_at hl 0 rfl) ?_
      refine lv_if_lt (tgt := 51) hx hb dX1_work_5 (by decide) (fun c_5 => ?_) (fun c_5 => False.elim (c_5 (by decide +kernel)))
      have hE : (mw q d lt cn ge gu op le t1.1 t1.2) = (mw q d lt cn ge gu op le ((m_wrk lt ge gu op le how a b (a + 1) (sc, ct)).1) ((m_wrk lt ge gu op le how a b (a + 1) (sc, ct)).2)) := by first | (rw [← hb0]; done) | (rw [← hb0]; rfl)
      rw [hE] at hP hD
      clear hE
      exact tw_vret hx hb hr hlocks hK hP hD hS dX1_work_51
    | succ i ih =>
      intro hk t1 hb0 H locs ls hP hD hS hl
      rw [nI_pred] at hl
      refine lv_iload hx hb dX1_work_3 (lv_at hl 0 rfl) ?_
      refine tw_if_lt (tgt := 51) hx hb (by omega) dX1_work_5 (by decide) ?_
      refine lv_iload_n hx hb dX1_work_8 rfl (lv_at hl 3 rfl) ?_
      refine lv_iconst (v := nI 1) hx hb dX1_work_9 (by decide +kernel) ?_
      refine tw_iadd hx hb dX1_work_10 ?_
      refine lv_iconst (v := nI 3) hx hb dX1_work_11 (by decide +kernel) ?_
      refine tw_imul hx hb dX1_work_12 ?_
      refine lv_iconst (v := nI 1) hx hb dX1_work_13 (by decide +kernel) ?_
      refine tw_isub hx hb (by omega) dX1_work_14 ?_
      refine lv_istore (lv' := [(5, .int (nI ((b + 1) * 3 - 1))), (4, .int (nI i)), (0, .ref (q 0)), (1, .int (nI a)), (2, .int (nI b)), (3, .int (nI how))]) hx hb dX1_work_15 hl (by decide) rfl (fun ls hl => ?_)
      have inner : ∀ (k2 : Nat), k2 ≤ (b + 1) * 3 → ∀ (t2 : al_T), m_wrw lt ge gu op le how a b i k2 t2 = m_wrw lt ge gu op le how a b i ((b + 1) * 3) t1 → ∀ (H : Heap) (locs : List Loc) (ls : Array Slot), va_P D vwCl (mw q d lt cn ge gu op le t2.1 t2.2) H → va_D A (mw q d lt cn ge gu op le t2.1 t2.2) → va_S A s.heap H locs → lv_has ls 6 [(5, .int (nI k2 - 1)), (4, .int (nI i)), (0, .ref (q 0)), (1, .int (nI a)), (2, .int (nI b)), (3, .int (nI how))] → W p l e (tw_rm 2 52) s m ([.ref (q 0), .int (nI a), .int (nI b), .int (nI how)] : List Value).toArray below meth c H locs 0 0 (MQ below (tw_Qv D vwCl (mt d) (mw q d lt cn ge gu op le ((m_wrk lt ge gu op le how a b (a + 1) (sc, ct)).1) ((m_wrk lt ge gu op le how a b (a + 1) (sc, ct)).2)) A) ([.ref (q 0), .int (nI a), .int (nI b), .int (nI how)] : List Value).toArray s 0 0 A) (F0 m 17 ls []) := by
        intro k2
        induction k2 with
        | zero =>
          intro hk2 t2 hb2 H locs ls hP hD hS hl
          refine lv_iload hx hb dX1_work_17 (lv_at hl 0 rfl) ?_
          refine lv_if_lt (tgt := 45) hx hb dX1_work_19 (by decide) (fun c_19 => ?_) (fun c_19 => False.elim (c_19 (by decide +kernel)))
          refine tw_idec (lv' := [(4, .int (nI i - 1)), (5, .int (nI 0 - 1)), (0, .ref (q 0)), (1, .int (nI a)), (2, .int (nI b)), (3, .int (nI how))]) hx hb dX1_work_45 hl (k := 1) rfl (by decide) rfl (fun ls hl => ?_)
          refine lv_goto (tgt := 3) hx hb dX1_work_48 (by decide) ?_
          exact ih (by omega) t2 ((congrArg (m_wrk lt ge gu op le how a b i) hb2).trans hb0) _ _ _ hP hD hS (lv_sub hl [0, 2, 3, 4, 5] rfl)
        | succ g ih2 =>
          intro hk2 t2 hb2 H locs ls hP hD hS hl
          rw [nI_pred] at hl
          refine lv_iload hx hb dX1_work_17 (lv_at hl 0 rfl) ?_
          refine tw_if_lt (tgt := 45) hx hb (by omega) dX1_work_19 (by decide) ?_
          refine lv_aload_n hx hb dX1_work_22 rfl (lv_at hl 2 rfl) ?_
          refine lv_iload hx hb dX1_work_23 (lv_at hl 1 rfl) ?_
          refine lv_iload hx hb dX1_work_25 (lv_at hl 0 rfl) ?_
          refine lv_iconst (v := nI 3) hx hb dX1_work_27 (by decide +kernel) ?_
          refine tw_idiv hx hb (by omega) (by decide) (by decide) dX1_work_28 ?_
          refine lv_iload hx hb dX1_work_29 (lv_at hl 0 rfl) ?_
          refine lv_iconst (v := nI 3) hx hb dX1_work_31 (by decide +kernel) ?_
          refine tw_irem hx hb (by omega) (by decide) (by decide) dX1_work_32 ?_
          refine lv_iload_n hx hb dX1_work_33 rfl (lv_at hl 3 rfl) ?_
          refine lv_iload_n hx hb dX1_work_34 rfl (lv_at hl 4 rfl) ?_
          refine lv_iload_n hx hb dX1_work_35 rfl (lv_at hl 5 rfl) ?_
          refine tw_callv (n := 6) (rest := []) (wr := []) (w' := (mw q d lt cn ge gu op le ((m_fil lt ge gu op le how a b i (g / 3) (g % 3) (t2.1, t2.2)).1) ((m_fil lt ge gu op le how a b i (g / 3) (g % 3) (t2.1, t2.2)).2))) (kX1_fill l D q d lt cn ge gu op le t2.1 t2.2 i (g / 3) (g % 3) a b how (by omega) (by omega) (by omega) (by omega) (by omega) (by omega)) S (lw_V q214 q216 qs13 q21 q217) (by decide +kernel) ⟨Nat.le_of_ble_eq_true rfl, Nat.le_of_ble_eq_true rfl⟩ hK hP hD hS hA [0, 1, 2, 3, 4] [] [0, 1, 2, 3] rfl rfl (by decide) (by decide) (fun i h => absurd h List.not_mem_nil) rfl (ci := 1) rfl (q0 := 0) rfl rfl rfl hl.1 (Nat.le_of_ble_eq_true rfl) dX1_work_36 ⟨Nat.zero_le _, Nat.zero_le _⟩ (fun H locs hP hD hS => ?_)
          have hP : va_P D vwCl (mw q d lt cn ge gu op le ((m_fil lt ge gu op le how a b i (g / 3) (g % 3) (t2.1, t2.2)).1) ((m_fil lt ge gu op le how a b i (g / 3) (g % 3) (t2.1, t2.2)).2)) H := hP
          have hD : va_D A (mw q d lt cn ge gu op le ((m_fil lt ge gu op le how a b i (g / 3) (g % 3) (t2.1, t2.2)).1) ((m_fil lt ge gu op le how a b i (g / 3) (g % 3) (t2.1, t2.2)).2)) := hD
          refine tw_idec (lv' := [(5, .int (nI g - 1)), (4, .int (nI i)), (0, .ref (q 0)), (1, .int (nI a)), (2, .int (nI b)), (3, .int (nI how))]) hx hb dX1_work_39 hl (k := 0) rfl (by decide) rfl (fun ls hl => ?_)
          refine lv_goto (tgt := 17) hx hb dX1_work_42 (by decide) ?_
          exact ih2 (by omega) (m_fil lt ge gu op le how a b i (g / 3) (g % 3) t2) hb2 _ _ _ hP hD hS (lv_sub hl [0, 1, 2, 3, 4, 5] rfl)
      exact inner ((b + 1) * 3) (Nat.le_refl _) t1 rfl _ _ _ hP hD hS (by rw [show nI ((b + 1) * 3) - 1 = nI ((b + 1) * 3 - 1) from pk_sub (b := 1) (by omega)]; exact (lv_sub hl [0, 1, 2, 3, 4, 5] rfl))
  refine lv_iload_n hx hb dX1_work_0 rfl (lv_at hl 1 rfl) ?_
  refine lv_istore (lv' := [(4, .int (nI a)), (0, .ref (q 0)), (1, .int (nI a)), (2, .int (nI b)), (3, .int (nI how))]) hx hb dX1_work_1 hl (by decide) rfl (fun ls hl => ?_)
  exact loop (a + 1) (by omega) (sc, ct) rfl _ _ _ hP hD hS (by rw [nI_pred]; exact (lv_sub hl [0, 1, 2, 3, 4] rfl))
set_option maxHeartbeats 4000000 in
set_option maxRecDepth 100000 in
theorem kX1_best  (h1 : cn 0 ≤ 10) (h2 : cn 1 ≤ 10) : Ci l yX1_best cX1_best 1 .int 3 77 D vwCl (mt d) [.ref (q 0)] (mw q d lt cn ge gu op le sc ct) ((m_wrk lt ge gu op le 0 (cn 0) (cn 1) (cn 0 + 1) (sc, ct)).1 0) (mw q d lt cn ge gu op le ((m_wrk lt ge gu op le 0 (cn 0) (cn 1) (cn 0 + 1) (sc, ct)).1) ((m_wrk lt ge gu op le 0 (cn 0) (cn 1) (cn 0 + 1) (sc, ct)).2)) := by
  refine Ci.of (by decide +kernel) (Nat.le_of_ble_eq_true rfl) ?_
  intro p e s m below meth c A ls hx hb hr hlocks hml hown hts hK hP hD hS hA hl
  have hown : s.vm.findClass RX1 = some m.cls := hown
  have S : CallFix p m c cX1_best 1 s ([.ref (q 0)] : List Value).toArray lw_all RX1 := ⟨hx, hb, hml, hown, hts⟩
  have hl : lv_has ls 1 [(0, .ref (q 0))] := hl
  refine lv_aload_n hx hb dX1_best_0 rfl (lv_at hl 0 rfl) ?_
  refine lv_aload_n hx hb dX1_best_1 rfl (lv_at hl 0 rfl) ?_
  refine va_get (D := D) (ci := 1) (v := .ref (q 2)) (C := RX1) (T := TX1) (N := 8) hx hb hts in_X1 hown hK hP 0 rfl rfl 1 (by decide) (hts _ q170) (fun _ h9 => h9) rfl dX1_best_2 ?_
  refine lv_iconst (v := nI 0) hx hb dX1_best_5 (by decide +kernel) ?_
  refine tw_iald hx hb hK hP 2 1 rfl rfl (by omega) (by decide) dX1_best_6 ?_
  refine lv_aload_n hx hb dX1_best_7 rfl (lv_at hl 0 rfl) ?_
  refine va_get (D := D) (ci := 1) (v := .ref (q 2)) (C := RX1) (T := TX1) (N := 8) hx hb hts in_X1 hown hK hP 0 rfl rfl 1 (by decide) (hts _ q170) (fun _ h9 => h9) rfl dX1_best_8 ?_
  refine lv_iconst (v := nI 1) hx hb dX1_best_11 (by decide +kernel) ?_
  refine tw_iald hx hb hK hP 2 1 rfl rfl (by omega) (by decide) dX1_best_12 ?_
  refine lv_iconst (v := nI 0) hx hb dX1_best_13 (by decide +kernel) ?_
  refine tw_callv (n := 3) (rest := []) (wr := []) (w' := (mw q d lt cn ge gu op le ((m_wrk lt ge gu op le 0 (cn 0) (cn 1) ((cn 0) + 1) (sc, ct)).1) ((m_wrk lt ge gu op le 0 (cn 0) (cn 1) ((cn 0) + 1) (sc, ct)).2))) (kX1_work l D q d lt cn ge gu op le sc ct (cn 0) (cn 1) 0 (by omega) (by omega) (by omega)) S (lw_V q210 q212 qs12 q21 q213) (by decide +kernel) ⟨Nat.le_of_ble_eq_true rfl, Nat.le_of_ble_eq_true rfl⟩ hK hP hD hS hA [0, 1, 2, 3, 4] [] [0, 1, 2, 3] rfl rfl (by decide) (by decide) (fun i h => absurd h List.not_mem_nil) rfl (ci := 1) rfl (q0 := 0) rfl rfl rfl hl.1 (Nat.le_of_ble_eq_true rfl) dX1_best_14 ⟨Nat.zero_le _, Nat.zero_le _⟩ (fun H locs hP hD hS => ?_)
  have hP : va_P D vwCl (mw q d lt cn ge gu op le ((m_wrk lt ge gu op le 0 (cn 0) (cn 1) ((cn 0) + 1) (sc, ct)).1) ((m_wrk lt ge gu op le 0 (cn 0) (cn 1) ((cn 0) + 1) (sc, ct)).2)) H := hP
  have hD : va_D A (mw q d lt cn ge gu op le ((m_wrk lt ge gu op le 0 (cn 0) (cn 1) ((cn 0) + 1) (sc, ct)).1) ((m_wrk lt ge gu op le 0 (cn 0) (cn 1) ((cn 0) + 1) (sc, ct)).2)) := hD
  refine lv_aload_n hx hb dX1_best_17 rfl (lv_at hl 0 rfl) ?_
  refine va_get (D := D) (ci := 1) (v := .ref (q 3)) (C := RX1) (T := TX1) (N := 8) hx hb hts in_X1 hown hK hP 0 rfl rfl 6 (by decide) (hts _ q175) (fun _ h9 => h9) rfl dX1_best_18 ?_
  refine lv_iconst (v := nI 0) hx hb dX1_best_21 (by decide +kernel) ?_
  refine tw_iald hx hb hK hP 3 2 rfl rfl (by omega) (by decide) dX1_best_22 ?_
  have hP : va_P D vwCl (mw q d lt cn ge gu op le ((m_wrk lt ge gu op le 0 (cn 0) (cn 1) (cn 0 + 1) (sc, ct)).1) ((m_wrk lt ge gu op le 0 (cn 0) (cn 1) (cn 0 + 1) (sc, ct)).2)) H := hP
  have hD : va_D A (mw q d lt cn ge gu op le ((m_wrk lt ge gu op le 0 (cn 0) (cn 1) (cn 0 + 1) (sc, ct)).1) ((m_wrk lt ge gu op le 0 (cn 0) (cn 1) (cn 0 + 1) (sc, ct)).2)) := hD
  exact tw_iret hx hb hr hlocks hK hP hD hS (rfl) dX1_best_23
set_option maxHeartbeats 4000000 in
set_option maxRecDepth 100000 in
theorem kX1_ways  (h1 : cn 0 ≤ 10) (h2 : cn 1 ≤ 10) : Ci l yX1_ways cX1_ways 1 .int 3 77 D vwCl (mt d) [.ref (q 0)] (mw q d lt cn ge gu op le sc ct) ((m_wrk lt ge gu op le 0 (cn 0) (cn 1) (cn 0 + 1) (sc, ct)).2 0) (mw q d lt cn ge gu op le ((m_wrk lt ge gu op le 0 (cn 0) (cn 1) (cn 0 + 1) (sc, ct)).1) ((m_wrk lt ge gu op le 0 (cn 0) (cn 1) (cn 0 + 1) (sc, ct)).2)) := by
  refine Ci.of (by decide +kernel) (Nat.le_of_ble_eq_true rfl) ?_
  intro p e s m below meth c A ls hx hb hr hlocks hml hown hts hK hP hD hS hA hl
  have hown : s.vm.findClass RX1 = some m.cls := hown
  have S : CallFix p m c cX1_ways 1 s ([.ref (q 0)] : List Value).toArray lw_all RX1 := ⟨hx, hb, hml, hown, hts⟩
  have hl : lv_has ls 1 [(0, .ref (q 0))] := hl
  refine lv_aload_n hx hb dX1_ways_0 rfl (lv_at hl 0 rfl) ?_
  refine lv_aload_n hx hb dX1_ways_1 rfl (lv_at hl 0 rfl) ?_
  refine va_get (D := D) (ci := 1) (v := .ref (q 2)) (C := RX1) (T := TX1) (N := 8) hx hb hts in_X1 hown hK hP 0 rfl rfl 1 (by decide) (hts _ q170) (fun _ h9 => h9) rfl dX1_ways_2 ?_
  refine lv_iconst (v := nI 0) hx hb dX1_ways_5 (by decide +kernel) ?_
  refine tw_iald hx hb hK hP 2 1 rfl rfl (by omega) (by decide) dX1_ways_6 ?_
  refine lv_aload_n hx hb dX1_ways_7 rfl (lv_at hl 0 rfl) ?_
  refine va_get (D := D) (ci := 1) (v := .ref (q 2)) (C := RX1) (T := TX1) (N := 8) hx hb hts in_X1 hown hK hP 0 rfl rfl 1 (by decide) (hts _ q170) (fun _ h9 => h9) rfl dX1_ways_8 ?_
  refine lv_iconst (v := nI 1) hx hb dX1_ways_11 (by decide +kernel) ?_
  refine tw_iald hx hb hK hP 2 1 rfl rfl (by omega) (by decide) dX1_ways_12 ?_
  refine lv_iconst (v := nI 0) hx hb dX1_ways_13 (by decide +kernel) ?_
  refine tw_callv (n := 3) (rest := []) (wr := []) (w' := (mw q d lt cn ge gu op le ((m_wrk lt ge gu op le 0 (cn 0) (cn 1) ((cn 0) + 1) (sc, ct)).1) ((m_wrk lt ge gu op le 0 (cn 0) (cn 1) ((cn 0) + 1) (sc, ct)).2))) (kX1_work l D q d lt cn ge gu op le sc ct (cn 0) (cn 1) 0 (by omega) (by omega) (by omega)) S (lw_V q210 q212 qs12 q21 q213) (by decide +kernel) ⟨Nat.le_of_ble_eq_true rfl, Nat.le_of_ble_eq_true rfl⟩ hK hP hD hS hA [0, 1, 2, 3, 4] [] [0, 1, 2, 3] rfl rfl (by decide) (by decide) (fun i h => absurd h List.not_mem_nil) rfl (ci := 1) rfl (q0 := 0) rfl rfl rfl hl.1 (Nat.le_of_ble_eq_true rfl) dX1_ways_14 ⟨Nat.zero_le _, Nat.zero_le _⟩ (fun H locs hP hD hS => ?_)
  have hP : va_P D vwCl (mw q d lt cn ge gu op le ((m_wrk lt ge gu op le 0 (cn 0) (cn 1) ((cn 0) + 1) (sc, ct)).1) ((m_wrk lt ge gu op le 0 (cn 0) (cn 1) ((cn 0) + 1) (sc, ct)).2)) H := hP
  have hD : va_D A (mw q d lt cn ge gu op le ((m_wrk lt ge gu op le 0 (cn 0) (cn 1) ((cn 0) + 1) (sc, ct)).1) ((m_wrk lt ge gu op le 0 (cn 0) (cn 1) ((cn 0) + 1) (sc, ct)).2)) := hD
  refine lv_aload_n hx hb dX1_ways_17 rfl (lv_at hl 0 rfl) ?_
  refine va_get (D := D) (ci := 1) (v := .ref (q 4)) (C := RX1) (T := TX1) (N := 8) hx hb hts in_X1 hown hK hP 0 rfl rfl 7 (by decide) (hts _ q176) (fun _ h9 => h9) rfl dX1_ways_18 ?_
  refine lv_iconst (v := nI 0) hx hb dX1_ways_21 (by decide +kernel) ?_
  refine tw_iald hx hb hK hP 4 3 rfl rfl (by omega) (by decide) dX1_ways_22 ?_
  have hP : va_P D vwCl (mw q d lt cn ge gu op le ((m_wrk lt ge gu op le 0 (cn 0) (cn 1) (cn 0 + 1) (sc, ct)).1) ((m_wrk lt ge gu op le 0 (cn 0) (cn 1) (cn 0 + 1) (sc, ct)).2)) H := hP
  have hD : va_D A (mw q d lt cn ge gu op le ((m_wrk lt ge gu op le 0 (cn 0) (cn 1) (cn 0 + 1) (sc, ct)).1) ((m_wrk lt ge gu op le 0 (cn 0) (cn 1) (cn 0 + 1) (sc, ct)).2)) := hD
  exact tw_iret hx hb hr hlocks hK hP hD hS (rfl) dX1_ways_23
end
end
section
/-! THE REFERENCE: rest, sort, walk, column, columns, local, fitted, overlap, paired, type, wipe, rules -/
theorem m_srt_lt (lt : Nat → Int32) (ge gu op le : Int32) (sc : Nat → Int32) (n m i j last : Nat) : m_srt lt ge gu op le sc n m i j last < 3 := by
  have h12 : ∀ (c : Prop) [Decidable c], (if c then 1 else 2 : Nat) < 3 := fun c _ => by split <;> decide
  by_cases h0 : i < n ∧ j < m ∧ m_rst le sc n m (i + 1) (j + 1) 0 + x_gain lt ge gu i j = m_rst le sc n m i j last
  · rw [m_srt, if_pos h0]; decide
  · rw [m_srt, if_neg h0]; exact h12 _
section
variable (l : Launch) (D : va_G) (q : Nat → Nat) (d : Nat → ClassId) (lt : Nat → Int32) (cn : Nat → Nat) (ge gu op le : Int32) (sc ct : Nat → Int32)
set_option maxHeartbeats 4000000 in
set_option maxRecDepth 100000 in
theorem kX1_rest (i : Nat) (j : Nat) (la : Nat) (h1 : i ≤ cn 0) (h2 : j ≤ cn 1) (h3 : cn 0 ≤ 10) (h4 : cn 1 ≤ 10) (h5 : la < 3) : Ci l yX1_rest cX1_rest 7 .int 0 0 D vwCl (mt d) [.ref (q 0), .int (nI i), .int (nI j), .int (nI la)] (mw q d lt cn ge gu op le sc ct) (m_rst le sc (cn 0) (cn 1) i j la) (mw q d lt cn ge gu op le sc ct) := by
  refine Ci.of (by decide +kernel) (Nat.le_of_ble_eq_true rfl) ?_
  intro p e s m below meth c A ls hx hb hr hlocks hml hown hts hK hP hD hS hA hl
  have hown : s.vm.findClass RX1 = some m.cls := hown
  have S : CallFix p m c cX1_rest 7 s ([.ref (q 0), .int (nI i), .int (nI j), .int (nI la)] : List Value).toArray lw_all RX1 := ⟨hx, hb, hml, hown, hts⟩
  have hl : lv_has ls 7 [(0, .ref (q 0)), (1, .int (nI i)), (2, .int (nI j)), (3, .int (nI la))] := hl
  have j83 : ∀ (H : Heap) (locs : List Loc) (ls : Array Slot), va_P D vwCl (mw q d lt cn ge gu op le sc ct) H → va_D A (mw q d lt cn ge gu op le sc ct) → va_S A s.heap H locs → lv_has ls 7 [(4, .int (m_rs1 le sc i j la (cn 0))), (0, .ref (q 0)), (1, .int (nI i)), (2, .int (nI j)), (3, .int (nI la))] → W p l e (tw_rm 0 0) s m ([.ref (q 0), .int (nI i), .int (nI j), .int (nI la)] : List Value).toArray below meth c H locs 0 0 (MQ below (tw_Qi D vwCl (mt d) (m_rst le sc (cn 0) (cn 1) i j la) (mw q d lt cn ge gu op le sc ct) A) ([.ref (q 0), .int (nI i), .int (nI j), .int (nI la)] : List Value).toArray s 0 0 A) (F0 m 83 ls []) := by
    intro H locs ls hP hD hS hl
    by_cases hla : la = 2
    · 
      have loop : ∀ (n k : Nat), k ≤ cn 1 - j → cn 1 - j + 1 ≤ k + n → ∀ (H : Heap) (locs : List Loc) (ls : Array Slot), va_P D vwCl (mw q d lt cn ge gu op le sc ct) H → va_D A (mw q d lt cn ge gu op le sc ct) → va_S A s.heap H locs → lv_has ls 7 [(5, .int (nI (k + 1))), (4, .int (al_mx (fun x => sc ((i * 11 + j + (x + 1)) * 3 + 2) - nI (x + 1) * le) (m_rs1 le sc i j la (cn 0)) k)), (0, .ref (q 0)), (1, .int (nI i)), (2, .int (nI j)), (3, .int (nI la))] → W p l e (tw_rm 0 0) s m ([.ref (q 0), .int (nI i), .int (nI j), .int (nI la)] : List Value).toArray below meth c H locs 0 0 (MQ below (tw_Qi D vwCl (mt d) (m_rst le sc (cn 0) (cn 1) i j la) (mw q d lt cn ge gu op le sc ct) A) ([.ref (q 0), .int (nI i), .int (nI j), .int (nI la)] : List Value).toArray s 0 0 A) (F0 m 86 ls []) := by
        intro n
        induction n with
        | zero => intro k hk hn; exact absurd hn (by omega)
        | succ n ih =>
          intro k hk hn H locs ls hP hD hS hl
          refine lv_iload_n hx hb dX1_rest_86 rfl (lv_at hl 5 rfl) ?_
          refine lv_iconst (v := nI 2) hx hb dX1_rest_87 (by decide +kernel) ?_
          refine tw_icmp_ne (tgt := 149) hx hb (by omega) (by omega) dX1_rest_88 (by decide) (fun c_88 => False.elim (by omega)) (fun c_88 => ?_)
          refine lv_iload_n hx hb dX1_rest_91 rfl (lv_at hl 4 rfl) ?_
          refine lv_iload hx hb dX1_rest_92 (lv_at hl 0 rfl) ?_
          refine tw_iadd hx hb dX1_rest_94 ?_
          refine lv_aload_n hx hb dX1_rest_95 rfl (lv_at hl 2 rfl) ?_
          refine va_get (D := D) (ci := 1) (v := .ref (q 2)) (C := RX1) (T := TX1) (N := 8) hx hb hts in_X1 hown hK hP 0 rfl rfl 1 (by decide) (hts _ q170) (fun _ h9 => h9) rfl dX1_rest_96 ?_
          refine lv_iconst (v := nI 1) hx hb dX1_rest_99 (by decide +kernel) ?_
          refine tw_iald hx hb hK hP 2 1 rfl rfl (by omega) (by decide) dX1_rest_100 ?_
          refine tw_icmp_gt (tgt := 149) hx hb (by omega) (by omega) dX1_rest_101 (by decide) (fun c_101 => ?_) (fun c_101 => ?_)
          · 
            have hk3 : k = cn 1 - j := by omega
            subst hk3
            refine lv_iload hx hb dX1_rest_149 (lv_at hl 1 rfl) ?_
            exact tw_iret hx hb hr hlocks hK hP hD hS ((if_pos hla).symm) dX1_rest_151
          · 
            refine lv_aload_n hx hb dX1_rest_104 rfl (lv_at hl 2 rfl) ?_
            refine va_get (D := D) (ci := 1) (v := .ref (q 3)) (C := RX1) (T := TX1) (N := 8) hx hb hts in_X1 hown hK hP 0 rfl rfl 6 (by decide) (hts _ q175) (fun _ h9 => h9) rfl dX1_rest_105 ?_
            refine lv_iload_n hx hb dX1_rest_108 rfl (lv_at hl 3 rfl) ?_
            refine lv_bipush (v := nI 11) hx hb dX1_rest_109 (by decide +kernel) ?_
            refine tw_imul hx hb dX1_rest_111 ?_
            refine lv_iload_n hx hb dX1_rest_112 rfl (lv_at hl 4 rfl) ?_
            refine tw_iadd hx hb dX1_rest_113 ?_
            refine lv_iload hx hb dX1_rest_114 (lv_at hl 0 rfl) ?_
            refine tw_iadd hx hb dX1_rest_116 ?_
            refine lv_iconst (v := nI 3) hx hb dX1_rest_117 (by decide +kernel) ?_
            refine tw_imul hx hb dX1_rest_118 ?_
            refine lv_iconst (v := nI 2) hx hb dX1_rest_119 (by decide +kernel) ?_
            refine tw_iadd hx hb dX1_rest_120 ?_
            refine tw_iald hx hb hK hP 3 2 rfl rfl (by omega) (by decide) dX1_rest_121 ?_
            refine lv_iload hx hb dX1_rest_122 (lv_at hl 0 rfl) ?_
            refine lv_aload_n hx hb dX1_rest_124 rfl (lv_at hl 2 rfl) ?_
            refine va_get (D := D) (ci := 1) (v := .int le) (C := RX1) (T := TX1) (N := 8) hx hb hts in_X1 hown hK hP 0 rfl rfl 5 (by decide) (hts _ q174) (fun _ h9 => h9) rfl dX1_rest_125 ?_
            refine lv_imul hx hb dX1_rest_128 ?_
            refine lv_isub hx hb dX1_rest_129 ?_
            refine lv_istore (lv' := [(6, .int (sc ((i * 11 + j + (k + 1)) * 3 + 2) - nI (k + 1) * le)), (5, .int (nI (k + 1))), (4, .int (al_mx (fun x => sc ((i * 11 + j + (x + 1)) * 3 + 2) - nI (x + 1) * le) (m_rs1 le sc i j la (cn 0)) k)), (0, .ref (q 0)), (1, .int (nI i)), (2, .int (nI j)), (3, .int (nI la))]) hx hb dX1_rest_130 hl (by decide) rfl (fun ls hl => ?_)
            refine lv_iload hx hb dX1_rest_132 (lv_at hl 0 rfl) ?_
            refine lv_iload hx hb dX1_rest_134 (lv_at hl 2 rfl) ?_
            refine lv_icmp_le (tgt := 143) hx hb dX1_rest_136 (by decide) (fun c_136 => ?_) (fun c_136 => ?_)
            · 
              refine tw_iinc (lv' := [(5, .int (nI ((k + 1) + 1))), (6, .int (sc ((i * 11 + j + (k + 1)) * 3 + 2) - nI (k + 1) * le)), (4, .int (al_mx (fun x => sc ((i * 11 + j + (x + 1)) * 3 + 2) - nI (x + 1) * le) (m_rs1 le sc i j la (cn 0)) k)), (0, .ref (q 0)), (1, .int (nI i)), (2, .int (nI j)), (3, .int (nI la))]) hx hb dX1_rest_143 hl (k := 1) rfl (by decide) rfl (fun ls hl => ?_)
              refine lv_goto (tgt := 86) hx hb dX1_rest_146 (by decide) ?_
              have hh : al_mx (fun x => sc ((i * 11 + j + (x + 1)) * 3 + 2) - nI (x + 1) * le) (m_rs1 le sc i j la (cn 0)) (k + 1) = al_mx (fun x => sc ((i * 11 + j + (x + 1)) * 3 + 2) - nI (x + 1) * le) (m_rs1 le sc i j la (cn 0)) k := if_pos c_136
              exact ih (k + 1) (by omega) (by omega) _ _ _ hP hD hS (by rw [hh]; exact (lv_sub hl [0, 2, 3, 4, 5, 6] rfl))
            · 
              refine lv_iload hx hb dX1_rest_139 (lv_at hl 0 rfl) ?_
              refine lv_istore (lv' := [(4, .int (sc ((i * 11 + j + (k + 1)) * 3 + 2) - nI (k + 1) * le)), (6, .int (sc ((i * 11 + j + (k + 1)) * 3 + 2) - nI (k + 1) * le)), (5, .int (nI (k + 1))), (0, .ref (q 0)), (1, .int (nI i)), (2, .int (nI j)), (3, .int (nI la))]) hx hb dX1_rest_141 hl (by decide) rfl (fun ls hl => ?_)
              refine tw_iinc (lv' := [(5, .int (nI ((k + 1) + 1))), (4, .int (sc ((i * 11 + j + (k + 1)) * 3 + 2) - nI (k + 1) * le)), (6, .int (sc ((i * 11 + j + (k + 1)) * 3 + 2) - nI (k + 1) * le)), (0, .ref (q 0)), (1, .int (nI i)), (2, .int (nI j)), (3, .int (nI la))]) hx hb dX1_rest_143 hl (k := 2) rfl (by decide) rfl (fun ls hl => ?_)
              refine lv_goto (tgt := 86) hx hb dX1_rest_146 (by decide) ?_
              have hh : al_mx (fun x => sc ((i * 11 + j + (x + 1)) * 3 + 2) - nI (x + 1) * le) (m_rs1 le sc i j la (cn 0)) (k + 1) = sc ((i * 11 + j + (k + 1)) * 3 + 2) - nI (k + 1) * le := if_neg c_136
              exact ih (k + 1) (by omega) (by omega) _ _ _ hP hD hS (by rw [hh]; exact (lv_sub hl [0, 1, 3, 4, 5, 6] rfl))
      refine lv_iconst (v := nI 1) hx hb dX1_rest_83 (by decide +kernel) ?_
      refine lv_istore (lv' := [(5, .int (nI 1)), (4, .int (m_rs1 le sc i j la (cn 0))), (0, .ref (q 0)), (1, .int (nI i)), (2, .int (nI j)), (3, .int (nI la))]) hx hb dX1_rest_84 hl (by decide) rfl (fun ls hl => ?_)
      exact loop (cn 1 - j + 1) 0 (by omega) (by omega) _ _ _ hP hD hS (lv_sub hl [0, 1, 2, 3, 4, 5] rfl)
    · 
      refine lv_iconst (v := nI 1) hx hb dX1_rest_83 (by decide +kernel) ?_
      refine lv_istore (lv' := [(5, .int (nI 1)), (4, .int (m_rs1 le sc i j la (cn 0))), (0, .ref (q 0)), (1, .int (nI i)), (2, .int (nI j)), (3, .int (nI la))]) hx hb dX1_rest_84 hl (by decide) rfl (fun ls hl => ?_)
      refine lv_iload_n hx hb dX1_rest_86 rfl (lv_at hl 5 rfl) ?_
      refine lv_iconst (v := nI 2) hx hb dX1_rest_87 (by decide +kernel) ?_
      refine tw_icmp_ne (tgt := 149) hx hb (by omega) (by omega) dX1_rest_88 (by decide) (fun c_88 => ?_) (fun c_88 => False.elim (by omega))
      refine lv_iload hx hb dX1_rest_149 (lv_at hl 1 rfl) ?_
      exact tw_iret hx hb hr hlocks hK hP hD hS ((if_neg hla).symm) dX1_rest_151
  by_cases hla : la = 1
  · 
    have loop : ∀ (n k : Nat), k ≤ cn 0 - i → cn 0 - i + 1 ≤ k + n → ∀ (H : Heap) (locs : List Loc) (ls : Array Slot), va_P D vwCl (mw q d lt cn ge gu op le sc ct) H → va_D A (mw q d lt cn ge gu op le sc ct) → va_S A s.heap H locs → lv_has ls 7 [(5, .int (nI (k + 1))), (4, .int (al_mx (fun x => sc (((i + (x + 1)) * 11 + j) * 3 + 1) - nI (x + 1) * le) (sc ((i * 11 + j) * 3 + la)) k)), (0, .ref (q 0)), (1, .int (nI i)), (2, .int (nI j)), (3, .int (nI la))] → W p l e (tw_rm 0 0) s m ([.ref (q 0), .int (nI i), .int (nI j), .int (nI la)] : List Value).toArray below meth c H locs 0 0 (MQ below (tw_Qi D vwCl (mt d) (m_rst le sc (cn 0) (cn 1) i j la) (mw q d lt cn ge gu op le sc ct) A) ([.ref (q 0), .int (nI i), .int (nI j), .int (nI la)] : List Value).toArray s 0 0 A) (F0 m 20 ls []) := by
      intro n
      induction n with
      | zero => intro k hk hn; exact absurd hn (by omega)
      | succ n ih =>
        intro k hk hn H locs ls hP hD hS hl
        refine lv_iload_n hx hb dX1_rest_20 rfl (lv_at hl 5 rfl) ?_
        refine lv_iconst (v := nI 1) hx hb dX1_rest_21 (by decide +kernel) ?_
        refine tw_icmp_ne (tgt := 83) hx hb (by omega) (by omega) dX1_rest_22 (by decide) (fun c_22 => False.elim (by omega)) (fun c_22 => ?_)
        refine lv_iload_n hx hb dX1_rest_25 rfl (lv_at hl 3 rfl) ?_
        refine lv_iload hx hb dX1_rest_26 (lv_at hl 0 rfl) ?_
        refine tw_iadd hx hb dX1_rest_28 ?_
        refine lv_aload_n hx hb dX1_rest_29 rfl (lv_at hl 2 rfl) ?_
        refine va_get (D := D) (ci := 1) (v := .ref (q 2)) (C := RX1) (T := TX1) (N := 8) hx hb hts in_X1 hown hK hP 0 rfl rfl 1 (by decide) (hts _ q170) (fun _ h9 => h9) rfl dX1_rest_30 ?_
        refine lv_iconst (v := nI 0) hx hb dX1_rest_33 (by decide +kernel) ?_
        refine tw_iald hx hb hK hP 2 1 rfl rfl (by omega) (by decide) dX1_rest_34 ?_
        refine tw_icmp_gt (tgt := 83) hx hb (by omega) (by omega) dX1_rest_35 (by decide) (fun c_35 => ?_) (fun c_35 => ?_)
        · 
          have hk3 : k = cn 0 - i := by omega
          subst hk3
          have hh : m_rs1 le sc i j la (cn 0) = al_mx (fun x => sc (((i + (x + 1)) * 11 + j) * 3 + 1) - nI (x + 1) * le) (sc ((i * 11 + j) * 3 + la)) (cn 0 - i) := if_pos hla
          exact j83 _ _ _ hP hD hS (by rw [hh]; exact (lv_sub hl [1, 2, 3, 4, 5] rfl))
        · 
          refine lv_aload_n hx hb dX1_rest_38 rfl (lv_at hl 2 rfl) ?_
          refine va_get (D := D) (ci := 1) (v := .ref (q 3)) (C := RX1) (T := TX1) (N := 8) hx hb hts in_X1 hown hK hP 0 rfl rfl 6 (by decide) (hts _ q175) (fun _ h9 => h9) rfl dX1_rest_39 ?_
          refine lv_iload_n hx hb dX1_rest_42 rfl (lv_at hl 3 rfl) ?_
          refine lv_iload hx hb dX1_rest_43 (lv_at hl 0 rfl) ?_
          refine tw_iadd hx hb dX1_rest_45 ?_
          refine lv_bipush (v := nI 11) hx hb dX1_rest_46 (by decide +kernel) ?_
          refine tw_imul hx hb dX1_rest_48 ?_
          refine lv_iload_n hx hb dX1_rest_49 rfl (lv_at hl 4 rfl) ?_
          refine tw_iadd hx hb dX1_rest_50 ?_
          refine lv_iconst (v := nI 3) hx hb dX1_rest_51 (by decide +kernel) ?_
          refine tw_imul hx hb dX1_rest_52 ?_
          refine lv_iconst (v := nI 1) hx hb dX1_rest_53 (by decide +kernel) ?_
          refine tw_iadd hx hb dX1_rest_54 ?_
          refine tw_iald hx hb hK hP 3 2 rfl rfl (by omega) (by decide) dX1_rest_55 ?_
          refine lv_iload hx hb dX1_rest_56 (lv_at hl 0 rfl) ?_
          refine lv_aload_n hx hb dX1_rest_58 rfl (lv_at hl 2 rfl) ?_
          refine va_get (D := D) (ci := 1) (v := .int le) (C := RX1) (T := TX1) (N := 8) hx hb hts in_X1 hown hK hP 0 rfl rfl 5 (by decide) (hts _ q174) (fun _ h9 => h9) rfl dX1_rest_59 ?_
          refine lv_imul hx hb dX1_rest_62 ?_
          refine lv_isub hx hb dX1_rest_63 ?_
          refine lv_istore (lv' := [(6, .int (sc (((i + (k + 1)) * 11 + j) * 3 + 1) - nI (k + 1) * le)), (5, .int (nI (k + 1))), (4, .int (al_mx (fun x => sc (((i + (x + 1)) * 11 + j) * 3 + 1) - nI (x + 1) * le) (sc ((i * 11 + j) * 3 + la)) k)), (0, .ref (q 0)), (1, .int (nI i)), (2, .int (nI j)), (3, .int (nI la))]) hx hb dX1_rest_64 hl (by decide) rfl (fun ls hl => ?_)
          refine lv_iload hx hb dX1_rest_66 (lv_at hl 0 rfl) ?_
          refine lv_iload hx hb dX1_rest_68 (lv_at hl 2 rfl) ?_
          refine lv_icmp_le (tgt := 77) hx hb dX1_rest_70 (by decide) (fun c_70 => ?_) (fun c_70 => ?_)
          · 
            refine tw_iinc (lv' := [(5, .int (nI ((k + 1) + 1))), (6, .int (sc (((i + (k + 1)) * 11 + j) * 3 + 1) - nI (k + 1) * le)), (4, .int (al_mx (fun x => sc (((i + (x + 1)) * 11 + j) * 3 + 1) - nI (x + 1) * le) (sc ((i * 11 + j) * 3 + la)) k)), (0, .ref (q 0)), (1, .int (nI i)), (2, .int (nI j)), (3, .int (nI la))]) hx hb dX1_rest_77 hl (k := 1) rfl (by decide) rfl (fun ls hl => ?_)
            refine lv_goto (tgt := 20) hx hb dX1_rest_80 (by decide) ?_
            have hh : al_mx (fun x => sc (((i + (x + 1)) * 11 + j) * 3 + 1) - nI (x + 1) * le) (sc ((i * 11 + j) * 3 + la)) (k + 1) = al_mx (fun x => sc (((i + (x + 1)) * 11 + j) * 3 + 1) - nI (x + 1) * le) (sc ((i * 11 + j) * 3 + la)) k := if_pos c_70
            exact ih (k + 1) (by omega) (by omega) _ _ _ hP hD hS (by rw [hh]; exact (lv_sub hl [0, 2, 3, 4, 5, 6] rfl))
          · 
            refine lv_iload hx hb dX1_rest_73 (lv_at hl 0 rfl) ?_
            refine lv_istore (lv' := [(4, .int (sc (((i + (k + 1)) * 11 + j) * 3 + 1) - nI (k + 1) * le)), (6, .int (sc (((i + (k + 1)) * 11 + j) * 3 + 1) - nI (k + 1) * le)), (5, .int (nI (k + 1))), (0, .ref (q 0)), (1, .int (nI i)), (2, .int (nI j)), (3, .int (nI la))]) hx hb dX1_rest_75 hl (by decide) rfl (fun ls hl => ?_)
            refine tw_iinc (lv' := [(5, .int (nI ((k + 1) + 1))), (4, .int (sc (((i + (k + 1)) * 11 + j) * 3 + 1) - nI (k + 1) * le)), (6, .int (sc (((i + (k + 1)) * 11 + j) * 3 + 1) - nI (k + 1) * le)), (0, .ref (q 0)), (1, .int (nI i)), (2, .int (nI j)), (3, .int (nI la))]) hx hb dX1_rest_77 hl (k := 2) rfl (by decide) rfl (fun ls hl => ?_)
            refine lv_goto (tgt := 20) hx hb dX1_rest_80 (by decide) ?_
            have hh : al_mx (fun x => sc (((i + (x + 1)) * 11 + j) * 3 + 1) - nI (x + 1) * le) (sc ((i * 11 + j) * 3 + la)) (k + 1) = sc (((i + (k + 1)) * 11 + j) * 3 + 1) - nI (k + 1) * le := if_neg c_70
            exact ih (k + 1) (by omega) (by omega) _ _ _ hP hD hS (by rw [hh]; exact (lv_sub hl [0, 1, 3, 4, 5, 6] rfl))
    refine lv_aload_n hx hb dX1_rest_0 rfl (lv_at hl 0 rfl) ?_
    refine va_get (D := D) (ci := 1) (v := .ref (q 3)) (C := RX1) (T := TX1) (N := 8) hx hb hts in_X1 hown hK hP 0 rfl rfl 6 (by decide) (hts _ q175) (fun _ h9 => h9) rfl dX1_rest_1 ?_
    refine lv_iload_n hx hb dX1_rest_4 rfl (lv_at hl 1 rfl) ?_
    refine lv_bipush (v := nI 11) hx hb dX1_rest_5 (by decide +kernel) ?_
    refine tw_imul hx hb dX1_rest_7 ?_
    refine lv_iload_n hx hb dX1_rest_8 rfl (lv_at hl 2 rfl) ?_
    refine tw_iadd hx hb dX1_rest_9 ?_
    refine lv_iconst (v := nI 3) hx hb dX1_rest_10 (by decide +kernel) ?_
    refine tw_imul hx hb dX1_rest_11 ?_
    refine lv_iload_n hx hb dX1_rest_12 rfl (lv_at hl 3 rfl) ?_
    refine tw_iadd hx hb dX1_rest_13 ?_
    refine tw_iald hx hb hK hP 3 2 rfl rfl (by omega) (by decide) dX1_rest_14 ?_
    refine lv_istore (lv' := [(4, .int (sc ((i * 11 + j) * 3 + la))), (0, .ref (q 0)), (1, .int (nI i)), (2, .int (nI j)), (3, .int (nI la))]) hx hb dX1_rest_15 hl (by decide) rfl (fun ls hl => ?_)
    refine lv_iconst (v := nI 1) hx hb dX1_rest_17 (by decide +kernel) ?_
    refine lv_istore (lv' := [(5, .int (nI 1)), (4, .int (sc ((i * 11 + j) * 3 + la))), (0, .ref (q 0)), (1, .int (nI i)), (2, .int (nI j)), (3, .int (nI la))]) hx hb dX1_rest_18 hl (by decide) rfl (fun ls hl => ?_)
    exact loop (cn 0 - i + 1) 0 (by omega) (by omega) _ _ _ hP hD hS (lv_sub hl [0, 1, 2, 3, 4, 5] rfl)
  · 
    have hh : m_rs1 le sc i j la (cn 0) = sc ((i * 11 + j) * 3 + la) := if_neg hla
    refine lv_aload_n hx hb dX1_rest_0 rfl (lv_at hl 0 rfl) ?_
    refine va_get (D := D) (ci := 1) (v := .ref (q 3)) (C := RX1) (T := TX1) (N := 8) hx hb hts in_X1 hown hK hP 0 rfl rfl 6 (by decide) (hts _ q175) (fun _ h9 => h9) rfl dX1_rest_1 ?_
    refine lv_iload_n hx hb dX1_rest_4 rfl (lv_at hl 1 rfl) ?_
    refine lv_bipush (v := nI 11) hx hb dX1_rest_5 (by decide +kernel) ?_
    refine tw_imul hx hb dX1_rest_7 ?_
    refine lv_iload_n hx hb dX1_rest_8 rfl (lv_at hl 2 rfl) ?_
    refine tw_iadd hx hb dX1_rest_9 ?_
    refine lv_iconst (v := nI 3) hx hb dX1_rest_10 (by decide +kernel) ?_
    refine tw_imul hx hb dX1_rest_11 ?_
    refine lv_iload_n hx hb dX1_rest_12 rfl (lv_at hl 3 rfl) ?_
    refine tw_iadd hx hb dX1_rest_13 ?_
    refine tw_iald hx hb hK hP 3 2 rfl rfl (by omega) (by decide) dX1_rest_14 ?_
    refine lv_istore (lv' := [(4, .int (sc ((i * 11 + j) * 3 + la))), (0, .ref (q 0)), (1, .int (nI i)), (2, .int (nI j)), (3, .int (nI la))]) hx hb dX1_rest_15 hl (by decide) rfl (fun ls hl => ?_)
    refine lv_iconst (v := nI 1) hx hb dX1_rest_17 (by decide +kernel) ?_
    refine lv_istore (lv' := [(5, .int (nI 1)), (4, .int (sc ((i * 11 + j) * 3 + la))), (0, .ref (q 0)), (1, .int (nI i)), (2, .int (nI j)), (3, .int (nI la))]) hx hb dX1_rest_18 hl (by decide) rfl (fun ls hl => ?_)
    refine lv_iload_n hx hb dX1_rest_20 rfl (lv_at hl 5 rfl) ?_
    refine lv_iconst (v := nI 1) hx hb dX1_rest_21 (by decide +kernel) ?_
    refine tw_icmp_ne (tgt := 83) hx hb (by omega) (by omega) dX1_rest_22 (by decide) (fun c_22 => ?_) (fun c_22 => False.elim (by omega))
    exact j83 _ _ _ hP hD hS (by rw [hh]; exact (lv_sub hl [1, 2, 3, 4, 5] rfl))
set_option maxHeartbeats 4000000 in
set_option maxRecDepth 100000 in
theorem kX1_sort (i : Nat) (j : Nat) (la : Nat) (h1 : i ≤ cn 0) (h2 : j ≤ cn 1) (h3 : cn 0 ≤ 10) (h4 : cn 1 ≤ 10) (h5 : la < 3) : Ci l yX1_sort cX1_sort 8 .int 1 26 D vwCl (mt d) [.ref (q 0), .int (nI i), .int (nI j), .int (nI la)] (mw q d lt cn ge gu op le sc ct) (if i = cn 0 ∧ j = cn 1 then -1 else nI (m_srt lt ge gu op le sc (cn 0) (cn 1) i j la)) (mw q d lt cn ge gu op le sc ct) := by
  refine Ci.of (by decide +kernel) (Nat.le_of_ble_eq_true rfl) ?_
  intro p e s m below meth c A ls hx hb hr hlocks hml hown hts hK hP hD hS hA hl
  have hown : s.vm.findClass RX1 = some m.cls := hown
  have S : CallFix p m c cX1_sort 8 s ([.ref (q 0), .int (nI i), .int (nI j), .int (nI la)] : List Value).toArray lw_all RX1 := ⟨hx, hb, hml, hown, hts⟩
  have hl : lv_has ls 8 [(0, .ref (q 0)), (1, .int (nI i)), (2, .int (nI j)), (3, .int (nI la))] := hl
  have j96 : ¬ (i = cn 0 ∧ j = cn 1) → ¬ (i < cn 0 ∧ j < cn 1 ∧ m_rst le sc (cn 0) (cn 1) (i + 1) (j + 1) 0 + x_gain lt ge gu i j = m_rst le sc (cn 0) (cn 1) i j la) → ∀ (H : Heap) (locs : List Loc) (ls : Array Slot), va_P D vwCl (mw q d lt cn ge gu op le sc ct) H → va_D A (mw q d lt cn ge gu op le sc ct) → va_S A s.heap H locs → lv_has ls 8 [(7, .int (le + (if la = 1 then nI 0 else op))), (6, .int (m_rst le sc (cn 0) (cn 1) i j la)), (5, .int (nI (cn 1))), (4, .int (nI (cn 0))), (0, .ref (q 0)), (1, .int (nI i)), (2, .int (nI j)), (3, .int (nI la))] → W p l e (tw_rm 1 26) s m ([.ref (q 0), .int (nI i), .int (nI j), .int (nI la)] : List Value).toArray below meth c H locs 0 0 (MQ below (tw_Qi D vwCl (mt d) (if i = cn 0 ∧ j = cn 1 then -1 else nI (m_srt lt ge gu op le sc (cn 0) (cn 1) i j la)) (mw q d lt cn ge gu op le sc ct) A) ([.ref (q 0), .int (nI i), .int (nI j), .int (nI la)] : List Value).toArray s 0 0 A) (F0 m 96 ls []) := by
    intro hne h0 H locs ls hP hD hS hl
    have hm : m_srt lt ge gu op le sc (cn 0) (cn 1) i j la = if i < cn 0 ∧ m_rst le sc (cn 0) (cn 1) (i + 1) j 1 - (le + (if la = 1 then nI 0 else op)) = m_rst le sc (cn 0) (cn 1) i j la then 1 else 2 := if_neg h0
    refine lv_iload_n hx hb dX1_sort_96 rfl (lv_at hl 5 rfl) ?_
    refine lv_iload hx hb dX1_sort_97 (lv_at hl 3 rfl) ?_
    refine tw_icmp_ge (tgt := 123) hx hb (by omega) (by omega) dX1_sort_99 (by decide) (fun c_99 => ?_) (fun c_99 => ?_)
    · 
      refine lv_iconst (v := nI 2) hx hb dX1_sort_123 (by decide +kernel) ?_
      exact tw_iret hx hb hr hlocks hK hP hD hS (by rw [if_neg hne, hm, if_neg (fun h => absurd h.1 (by omega))]) dX1_sort_124
    · 
      refine lv_aload_n hx hb dX1_sort_102 rfl (lv_at hl 4 rfl) ?_
      refine lv_iload_n hx hb dX1_sort_103 rfl (lv_at hl 5 rfl) ?_
      refine lv_iconst (v := nI 1) hx hb dX1_sort_104 (by decide +kernel) ?_
      refine tw_iadd hx hb dX1_sort_105 ?_
      refine lv_iload_n hx hb dX1_sort_106 rfl (lv_at hl 6 rfl) ?_
      refine lv_iconst (v := nI 1) hx hb dX1_sort_107 (by decide +kernel) ?_
      refine tw_calli (n := 3) (rest := []) (wr := []) (w' := (mw q d lt cn ge gu op le sc ct)) (kX1_rest l D q d lt cn ge gu op le sc ct (i + 1) j 1 (by omega) (by omega) (by omega) (by omega) (by omega)) S (lw_V q245 q247 qs18 q21 q248) (by decide +kernel) ⟨Nat.le_of_ble_eq_true rfl, Nat.le_of_ble_eq_true rfl⟩ hK hP hD hS hA [0, 1, 2, 3, 4] [] [0, 1, 2, 3] rfl rfl (by decide) (by decide) (fun i h => absurd h List.not_mem_nil) rfl (ci := 1) rfl (q0 := 0) rfl rfl rfl hl.1 (Nat.le_of_ble_eq_true rfl) dX1_sort_108 ⟨Nat.zero_le _, Nat.zero_le _⟩ (fun H locs hP hD hS => ?_)
      have hP : va_P D vwCl (mw q d lt cn ge gu op le sc ct) H := hP
      have hD : va_D A (mw q d lt cn ge gu op le sc ct) := hD
      refine lv_iload hx hb dX1_sort_111 (lv_at hl 0 rfl) ?_
      refine lv_isub hx hb dX1_sort_113 ?_
      refine lv_iload hx hb dX1_sort_114 (lv_at hl 1 rfl) ?_
      refine lv_icmp_ne (tgt := 123) hx hb dX1_sort_116 (by decide) (fun c_116 => ?_) (fun c_116 => ?_)
      · 
        refine lv_iconst (v := nI 2) hx hb dX1_sort_123 (by decide +kernel) ?_
        exact tw_iret hx hb hr hlocks hK hP hD hS (by rw [if_neg hne, hm, if_neg (fun h => c_116 h.2)]) dX1_sort_124
      · 
        refine lv_iconst (v := nI 1) hx hb dX1_sort_119 (by decide +kernel) ?_
        refine lv_goto (tgt := 124) hx hb dX1_sort_120 (by decide) ?_
        exact tw_iret hx hb hr hlocks hK hP hD hS (by rw [if_neg hne, hm, if_pos ⟨c_99, c_116⟩]) dX1_sort_124
  have j76 : ¬ (i = cn 0 ∧ j = cn 1) → ¬ (i < cn 0 ∧ j < cn 1 ∧ m_rst le sc (cn 0) (cn 1) (i + 1) (j + 1) 0 + x_gain lt ge gu i j = m_rst le sc (cn 0) (cn 1) i j la) → ∀ (H : Heap) (locs : List Loc) (ls : Array Slot), va_P D vwCl (mw q d lt cn ge gu op le sc ct) H → va_D A (mw q d lt cn ge gu op le sc ct) → va_S A s.heap H locs → lv_has ls 8 [(6, .int (m_rst le sc (cn 0) (cn 1) i j la)), (5, .int (nI (cn 1))), (4, .int (nI (cn 0))), (0, .ref (q 0)), (1, .int (nI i)), (2, .int (nI j)), (3, .int (nI la))] → W p l e (tw_rm 1 26) s m ([.ref (q 0), .int (nI i), .int (nI j), .int (nI la)] : List Value).toArray below meth c H locs 0 0 (MQ below (tw_Qi D vwCl (mt d) (if i = cn 0 ∧ j = cn 1 then -1 else nI (m_srt lt ge gu op le sc (cn 0) (cn 1) i j la)) (mw q d lt cn ge gu op le sc ct) A) ([.ref (q 0), .int (nI i), .int (nI j), .int (nI la)] : List Value).toArray s 0 0 A) (F0 m 76 ls []) := by
    intro hne h0 H locs ls hP hD hS hl
    refine lv_aload_n hx hb dX1_sort_76 rfl (lv_at hl 3 rfl) ?_
    refine va_get (D := D) (ci := 1) (v := .int le) (C := RX1) (T := TX1) (N := 8) hx hb hts in_X1 hown hK hP 0 rfl rfl 5 (by decide) (hts _ q174) (fun _ h9 => h9) rfl dX1_sort_77 ?_
    refine lv_iload_n hx hb dX1_sort_80 rfl (lv_at hl 6 rfl) ?_
    refine lv_iconst (v := nI 1) hx hb dX1_sort_81 (by decide +kernel) ?_
    refine tw_icmp_ne (tgt := 89) hx hb (by omega) (by omega) dX1_sort_82 (by decide) (fun c_82 => ?_) (fun c_82 => ?_)
    · 
      refine lv_aload_n hx hb dX1_sort_89 rfl (lv_at hl 3 rfl) ?_
      refine va_get (D := D) (ci := 1) (v := .int op) (C := RX1) (T := TX1) (N := 8) hx hb hts in_X1 hown hK hP 0 rfl rfl 4 (by decide) (hts _ q173) (fun _ h9 => h9) rfl dX1_sort_90 ?_
      refine lv_iadd hx hb dX1_sort_93 ?_
      refine lv_istore (lv' := [(7, .int (le + op)), (6, .int (m_rst le sc (cn 0) (cn 1) i j la)), (5, .int (nI (cn 1))), (4, .int (nI (cn 0))), (0, .ref (q 0)), (1, .int (nI i)), (2, .int (nI j)), (3, .int (nI la))]) hx hb dX1_sort_94 hl (by decide) rfl (fun ls hl => ?_)
      exact j96 hne h0 _ _ _ hP hD hS (by rw [if_neg c_82]; exact (lv_sub hl [0, 1, 2, 3, 4, 5, 6, 7] rfl))
    · 
      refine lv_iconst (v := nI 0) hx hb dX1_sort_85 (by decide +kernel) ?_
      refine lv_goto (tgt := 93) hx hb dX1_sort_86 (by decide) ?_
      refine lv_iadd hx hb dX1_sort_93 ?_
      refine lv_istore (lv' := [(7, .int (le + nI 0)), (6, .int (m_rst le sc (cn 0) (cn 1) i j la)), (5, .int (nI (cn 1))), (4, .int (nI (cn 0))), (0, .ref (q 0)), (1, .int (nI i)), (2, .int (nI j)), (3, .int (nI la))]) hx hb dX1_sort_94 hl (by decide) rfl (fun ls hl => ?_)
      exact j96 hne h0 _ _ _ hP hD hS (by rw [if_pos c_82]; exact (lv_sub hl [0, 1, 2, 3, 4, 5, 6, 7] rfl))
  have j30 : ¬ (i = cn 0 ∧ j = cn 1) → ∀ (H : Heap) (locs : List Loc) (ls : Array Slot), va_P D vwCl (mw q d lt cn ge gu op le sc ct) H → va_D A (mw q d lt cn ge gu op le sc ct) → va_S A s.heap H locs → lv_has ls 8 [(5, .int (nI (cn 1))), (4, .int (nI (cn 0))), (0, .ref (q 0)), (1, .int (nI i)), (2, .int (nI j)), (3, .int (nI la))] → W p l e (tw_rm 1 26) s m ([.ref (q 0), .int (nI i), .int (nI j), .int (nI la)] : List Value).toArray below meth c H locs 0 0 (MQ below (tw_Qi D vwCl (mt d) (if i = cn 0 ∧ j = cn 1 then -1 else nI (m_srt lt ge gu op le sc (cn 0) (cn 1) i j la)) (mw q d lt cn ge gu op le sc ct) A) ([.ref (q 0), .int (nI i), .int (nI j), .int (nI la)] : List Value).toArray s 0 0 A) (F0 m 30 ls []) := by
    intro hne H locs ls hP hD hS hl
    refine lv_aload_n hx hb dX1_sort_30 rfl (lv_at hl 2 rfl) ?_
    refine lv_iload_n hx hb dX1_sort_31 rfl (lv_at hl 3 rfl) ?_
    refine lv_iload_n hx hb dX1_sort_32 rfl (lv_at hl 4 rfl) ?_
    refine lv_iload_n hx hb dX1_sort_33 rfl (lv_at hl 5 rfl) ?_
    refine tw_calli (n := 3) (rest := []) (wr := []) (w' := (mw q d lt cn ge gu op le sc ct)) (kX1_rest l D q d lt cn ge gu op le sc ct i j la (by omega) (by omega) (by omega) (by omega) (by omega)) S (lw_V q245 q247 qs18 q21 q248) (by decide +kernel) ⟨Nat.le_of_ble_eq_true rfl, Nat.le_of_ble_eq_true rfl⟩ hK hP hD hS hA [0, 1, 2, 3, 4] [] [0, 1, 2, 3] rfl rfl (by decide) (by decide) (fun i h => absurd h List.not_mem_nil) rfl (ci := 1) rfl (q0 := 0) rfl rfl rfl hl.1 (Nat.le_of_ble_eq_true rfl) dX1_sort_34 ⟨Nat.zero_le _, Nat.zero_le _⟩ (fun H locs hP hD hS => ?_)
    have hP : va_P D vwCl (mw q d lt cn ge gu op le sc ct) H := hP
    have hD : va_D A (mw q d lt cn ge gu op le sc ct) := hD
    refine lv_istore (lv' := [(6, .int (m_rst le sc (cn 0) (cn 1) i j la)), (5, .int (nI (cn 1))), (4, .int (nI (cn 0))), (0, .ref (q 0)), (1, .int (nI i)), (2, .int (nI j)), (3, .int (nI la))]) hx hb dX1_sort_37 hl (by decide) rfl (fun ls hl => ?_)
    refine lv_iload_n hx hb dX1_sort_39 rfl (lv_at hl 4 rfl) ?_
    refine lv_iload hx hb dX1_sort_40 (lv_at hl 2 rfl) ?_
    refine tw_icmp_ge (tgt := 76) hx hb (by omega) (by omega) dX1_sort_42 (by decide) (fun c_42 => ?_) (fun c_42 => ?_)
    · 
      exact j76 hne (fun h => absurd h.1 (by omega)) _ _ _ hP hD hS (lv_sub hl [0, 1, 2, 3, 4, 5, 6] rfl)
    · 
      refine lv_iload_n hx hb dX1_sort_45 rfl (lv_at hl 5 rfl) ?_
      refine lv_iload hx hb dX1_sort_46 (lv_at hl 1 rfl) ?_
      refine tw_icmp_ge (tgt := 76) hx hb (by omega) (by omega) dX1_sort_48 (by decide) (fun c_48 => ?_) (fun c_48 => ?_)
      · 
        exact j76 hne (fun h => absurd h.2.1 (by omega)) _ _ _ hP hD hS (lv_sub hl [0, 1, 2, 3, 4, 5, 6] rfl)
      · 
        refine lv_aload_n hx hb dX1_sort_51 rfl (lv_at hl 3 rfl) ?_
        refine lv_iload_n hx hb dX1_sort_52 rfl (lv_at hl 4 rfl) ?_
        refine lv_iconst (v := nI 1) hx hb dX1_sort_53 (by decide +kernel) ?_
        refine tw_iadd hx hb dX1_sort_54 ?_
        refine lv_iload_n hx hb dX1_sort_55 rfl (lv_at hl 5 rfl) ?_
        refine lv_iconst (v := nI 1) hx hb dX1_sort_56 (by decide +kernel) ?_
        refine tw_iadd hx hb dX1_sort_57 ?_
        refine lv_iconst (v := nI 0) hx hb dX1_sort_58 (by decide +kernel) ?_
        refine tw_calli (n := 3) (rest := []) (wr := []) (w' := (mw q d lt cn ge gu op le sc ct)) (kX1_rest l D q d lt cn ge gu op le sc ct (i + 1) (j + 1) 0 (by omega) (by omega) (by omega) (by omega) (by omega)) S (lw_V q245 q247 qs18 q21 q248) (by decide +kernel) ⟨Nat.le_of_ble_eq_true rfl, Nat.le_of_ble_eq_true rfl⟩ hK hP hD hS hA [0, 1, 2, 3, 4] [] [0, 1, 2, 3] rfl rfl (by decide) (by decide) (fun i h => absurd h List.not_mem_nil) rfl (ci := 1) rfl (q0 := 0) rfl rfl rfl hl.1 (Nat.le_of_ble_eq_true rfl) dX1_sort_59 ⟨Nat.zero_le _, Nat.zero_le _⟩ (fun H locs hP hD hS => ?_)
        have hP : va_P D vwCl (mw q d lt cn ge gu op le sc ct) H := hP
        have hD : va_D A (mw q d lt cn ge gu op le sc ct) := hD
        refine lv_aload_n hx hb dX1_sort_62 rfl (lv_at hl 3 rfl) ?_
        refine lv_iload_n hx hb dX1_sort_63 rfl (lv_at hl 4 rfl) ?_
        refine lv_iload_n hx hb dX1_sort_64 rfl (lv_at hl 5 rfl) ?_
        refine tw_calli (n := 2) (rest := [.int (m_rst le sc (cn 0) (cn 1) (i + 1) (j + 1) 0)]) (wr := []) (w' := (mw q d lt cn ge gu op le sc ct)) (kX1_gain l D q d lt cn ge gu op le sc ct i j (by omega) (by omega)) S (lw_V q224 q226 qs15 q21 q227) (by decide +kernel) ⟨Nat.le_of_ble_eq_true rfl, Nat.le_of_ble_eq_true rfl⟩ hK hP hD hS hA [0, 1, 2, 3, 4] [] [0, 1, 2, 3] rfl rfl (by decide) (by decide) (fun i h => absurd h List.not_mem_nil) rfl (ci := 1) rfl (q0 := 0) rfl rfl rfl hl.1 (Nat.le_of_ble_eq_true rfl) dX1_sort_65 ⟨Nat.zero_le _, Nat.zero_le _⟩ (fun H locs hP hD hS => ?_)
        have hP : va_P D vwCl (mw q d lt cn ge gu op le sc ct) H := hP
        have hD : va_D A (mw q d lt cn ge gu op le sc ct) := hD
        refine lv_iadd hx hb dX1_sort_68 ?_
        refine lv_iload hx hb dX1_sort_69 (lv_at hl 0 rfl) ?_
        refine lv_icmp_ne (tgt := 76) hx hb dX1_sort_71 (by decide) (fun c_71 => ?_) (fun c_71 => ?_)
        · 
          exact j76 hne (fun h => c_71 h.2.2) _ _ _ hP hD hS (lv_sub hl [0, 1, 2, 3, 4, 5, 6] rfl)
        · 
          have hm : m_srt lt ge gu op le sc (cn 0) (cn 1) i j la = 0 := if_pos ⟨c_42, c_48, c_71⟩
          refine lv_iconst (v := nI 0) hx hb dX1_sort_74 (by decide +kernel) ?_
          exact tw_iret hx hb hr hlocks hK hP hD hS (by rw [if_neg hne, hm]) dX1_sort_75
  refine lv_aload_n hx hb dX1_sort_0 rfl (lv_at hl 0 rfl) ?_
  refine va_get (D := D) (ci := 1) (v := .ref (q 2)) (C := RX1) (T := TX1) (N := 8) hx hb hts in_X1 hown hK hP 0 rfl rfl 1 (by decide) (hts _ q170) (fun _ h9 => h9) rfl dX1_sort_1 ?_
  refine lv_iconst (v := nI 0) hx hb dX1_sort_4 (by decide +kernel) ?_
  refine tw_iald hx hb hK hP 2 1 rfl rfl (by omega) (by decide) dX1_sort_5 ?_
  refine lv_istore (lv' := [(4, .int (nI (cn 0))), (0, .ref (q 0)), (1, .int (nI i)), (2, .int (nI j)), (3, .int (nI la))]) hx hb dX1_sort_6 hl (by decide) rfl (fun ls hl => ?_)
  refine lv_aload_n hx hb dX1_sort_8 rfl (lv_at hl 1 rfl) ?_
  refine va_get (D := D) (ci := 1) (v := .ref (q 2)) (C := RX1) (T := TX1) (N := 8) hx hb hts in_X1 hown hK hP 0 rfl rfl 1 (by decide) (hts _ q170) (fun _ h9 => h9) rfl dX1_sort_9 ?_
  refine lv_iconst (v := nI 1) hx hb dX1_sort_12 (by decide +kernel) ?_
  refine tw_iald hx hb hK hP 2 1 rfl rfl (by omega) (by decide) dX1_sort_13 ?_
  refine lv_istore (lv' := [(5, .int (nI (cn 1))), (4, .int (nI (cn 0))), (0, .ref (q 0)), (1, .int (nI i)), (2, .int (nI j)), (3, .int (nI la))]) hx hb dX1_sort_14 hl (by decide) rfl (fun ls hl => ?_)
  refine lv_iload_n hx hb dX1_sort_16 rfl (lv_at hl 3 rfl) ?_
  refine lv_iload hx hb dX1_sort_17 (lv_at hl 1 rfl) ?_
  refine tw_icmp_ne (tgt := 30) hx hb (by omega) (by omega) dX1_sort_19 (by decide) (fun c_19 => ?_) (fun c_19 => ?_)
  · 
    exact j30 (by omega) _ _ _ hP hD hS (lv_sub hl [0, 1, 2, 3, 4, 5] rfl)
  · 
    refine lv_iload_n hx hb dX1_sort_22 rfl (lv_at hl 4 rfl) ?_
    refine lv_iload hx hb dX1_sort_23 (lv_at hl 0 rfl) ?_
    refine tw_icmp_ne (tgt := 30) hx hb (by omega) (by omega) dX1_sort_25 (by decide) (fun c_25 => ?_) (fun c_25 => ?_)
    · 
      exact j30 (by omega) _ _ _ hP hD hS (lv_sub hl [0, 1, 2, 3, 4, 5] rfl)
    · 
      refine lv_iconst (v := -1) hx hb dX1_sort_28 (by decide +kernel) ?_
      exact tw_iret hx hb hr hlocks hK hP hD hS (by rw [if_pos ⟨c_19, c_25⟩]) dX1_sort_29
set_option maxHeartbeats 4000000 in
set_option maxRecDepth 100000 in
theorem kX1_walk (want : Int32) (h1 : cn 0 ≤ 10) (h2 : cn 1 ≤ 10) (h3 : ∀ i j la : Nat, i ≤ cn 0 → j ≤ cn 1 → la < 3 → ¬ (i = cn 0 ∧ j = cn 1) → (m_srt lt ge gu op le (m_wrk lt ge gu op le 0 (cn 0) (cn 1) (cn 0 + 1) (sc, ct)).1 (cn 0) (cn 1) i j la = 2 ∨ i + 1 ≤ cn 0) ∧ (m_srt lt ge gu op le (m_wrk lt ge gu op le 0 (cn 0) (cn 1) (cn 0 + 1) (sc, ct)).1 (cn 0) (cn 1) i j la = 1 ∨ j + 1 ≤ cn 1)) : Ci l yX1_walk cX1_walk 7 .int 4 97 D vwCl (mt d) [.ref (q 0), .int want] (mw q d lt cn ge gu op le sc ct) (m_wlk (m_srt lt ge gu op le (m_wrk lt ge gu op le 0 (cn 0) (cn 1) (cn 0 + 1) (sc, ct)).1 (cn 0) (cn 1)) (cn 0) (cn 1) want 21 0 0 0 0) (mw q d lt cn ge gu op le ((m_wrk lt ge gu op le 0 (cn 0) (cn 1) (cn 0 + 1) (sc, ct)).1) ((m_wrk lt ge gu op le 0 (cn 0) (cn 1) (cn 0 + 1) (sc, ct)).2)) := by
  refine Ci.of (by decide +kernel) (Nat.le_of_ble_eq_true rfl) ?_
  intro p e s m below meth c A ls hx hb hr hlocks hml hown hts hK hP hD hS hA hl
  have hown : s.vm.findClass RX1 = some m.cls := hown
  have S : CallFix p m c cX1_walk 7 s ([.ref (q 0), .int want] : List Value).toArray lw_all RX1 := ⟨hx, hb, hml, hown, hts⟩
  have hl : lv_has ls 7 [(0, .ref (q 0)), (1, .int want)] := hl
  have loop : ∀ (f i j la k : Nat), i ≤ cn 0 → j ≤ cn 1 → la < 3 → k + f = 21 → m_wlk (m_srt lt ge gu op le (m_wrk lt ge gu op le 0 (cn 0) (cn 1) (cn 0 + 1) (sc, ct)).1 (cn 0) (cn 1)) (cn 0) (cn 1) want f i j la k = m_wlk (m_srt lt ge gu op le (m_wrk lt ge gu op le 0 (cn 0) (cn 1) (cn 0 + 1) (sc, ct)).1 (cn 0) (cn 1)) (cn 0) (cn 1) want 21 0 0 0 0 → ∀ (H : Heap) (locs : List Loc) (ls : Array Slot), va_P D vwCl (mw q d lt cn ge gu op le ((m_wrk lt ge gu op le 0 (cn 0) (cn 1) (cn 0 + 1) (sc, ct)).1) ((m_wrk lt ge gu op le 0 (cn 0) (cn 1) (cn 0 + 1) (sc, ct)).2)) H → va_D A (mw q d lt cn ge gu op le ((m_wrk lt ge gu op le 0 (cn 0) (cn 1) (cn 0 + 1) (sc, ct)).1) ((m_wrk lt ge gu op le 0 (cn 0) (cn 1) (cn 0 + 1) (sc, ct)).2)) → va_S A s.heap H locs → lv_has ls 7 [(2, .int (nI i)), (3, .int (nI j)), (4, .int (nI la)), (5, .int (nI k)), (0, .ref (q 0)), (1, .int want)] → W p l e (tw_rm 4 97) s m ([.ref (q 0), .int want] : List Value).toArray below meth c H locs 0 0 (MQ below (tw_Qi D vwCl (mt d) (m_wlk (m_srt lt ge gu op le (m_wrk lt ge gu op le 0 (cn 0) (cn 1) (cn 0 + 1) (sc, ct)).1 (cn 0) (cn 1)) (cn 0) (cn 1) want 21 0 0 0 0) (mw q d lt cn ge gu op le ((m_wrk lt ge gu op le 0 (cn 0) (cn 1) (cn 0 + 1) (sc, ct)).1) ((m_wrk lt ge gu op le 0 (cn 0) (cn 1) (cn 0 + 1) (sc, ct)).2)) A) ([.ref (q 0), .int want] : List Value).toArray s 0 0 A) (F0 m 15 ls []) := by
    intro f
    induction f with
    | zero =>
      intro i j la k g1 g2 g3 g4 g6 H locs ls hP hD hS hl
      refine lv_iload hx hb dX1_walk_15 (lv_at hl 3 rfl) ?_
      refine lv_bipush (v := nI 21) hx hb dX1_walk_17 (by decide +kernel) ?_
      refine tw_icmp_ge (tgt := 87) hx hb (by omega) (by omega) dX1_walk_19 (by decide) (fun c_19 => ?_) (fun c_19 => False.elim (by omega))
      refine lv_sipush (v := -1000) hx hb dX1_walk_87 (by decide +kernel) ?_
      exact tw_iret hx hb hr hlocks hK hP hD hS (g6) dX1_walk_90
    | succ f ih =>
      intro i j la k g1 g2 g3 g4 g6 H locs ls hP hD hS hl
      refine lv_iload hx hb dX1_walk_15 (lv_at hl 3 rfl) ?_
      refine lv_bipush (v := nI 21) hx hb dX1_walk_17 (by decide +kernel) ?_
      refine tw_icmp_ge (tgt := 87) hx hb (by omega) (by omega) dX1_walk_19 (by decide) (fun c_19 => False.elim (by omega)) (fun c_19 => ?_)
      refine lv_aload_n hx hb dX1_walk_22 rfl (lv_at hl 4 rfl) ?_
      refine lv_iload_n hx hb dX1_walk_23 rfl (lv_at hl 0 rfl) ?_
      refine lv_iload_n hx hb dX1_walk_24 rfl (lv_at hl 1 rfl) ?_
      refine lv_iload hx hb dX1_walk_25 (lv_at hl 2 rfl) ?_
      refine tw_calli (n := 3) (rest := []) (wr := []) (w' := (mw q d lt cn ge gu op le ((m_wrk lt ge gu op le 0 (cn 0) (cn 1) (cn 0 + 1) (sc, ct)).1) ((m_wrk lt ge gu op le 0 (cn 0) (cn 1) (cn 0 + 1) (sc, ct)).2))) (kX1_sort l D q d lt cn ge gu op le ((m_wrk lt ge gu op le 0 (cn 0) (cn 1) (cn 0 + 1) (sc, ct)).1) ((m_wrk lt ge gu op le 0 (cn 0) (cn 1) (cn 0 + 1) (sc, ct)).2) i j la (by omega) (by omega) (by omega) (by omega) (by omega)) S (lw_V q241 q243 qs17 q21 q244) (by decide +kernel) ⟨Nat.le_of_ble_eq_true rfl, Nat.le_of_ble_eq_true rfl⟩ hK hP hD hS hA [0, 1, 2, 3, 4] [] [0, 1, 2, 3] rfl rfl (by decide) (by decide) (fun i h => absurd h List.not_mem_nil) rfl (ci := 1) rfl (q0 := 0) rfl rfl rfl hl.1 (Nat.le_of_ble_eq_true rfl) dX1_walk_27 ⟨Nat.zero_le _, Nat.zero_le _⟩ (fun H locs hP hD hS => ?_)
      have hP : va_P D vwCl (mw q d lt cn ge gu op le ((m_wrk lt ge gu op le 0 (cn 0) (cn 1) (cn 0 + 1) (sc, ct)).1) ((m_wrk lt ge gu op le 0 (cn 0) (cn 1) (cn 0 + 1) (sc, ct)).2)) H := hP
      have hD : va_D A (mw q d lt cn ge gu op le ((m_wrk lt ge gu op le 0 (cn 0) (cn 1) (cn 0 + 1) (sc, ct)).1) ((m_wrk lt ge gu op le 0 (cn 0) (cn 1) (cn 0 + 1) (sc, ct)).2)) := hD
      by_cases hend : i = cn 0 ∧ j = cn 1
      · 
        rw [if_pos hend]
        refine lv_istore (lv' := [(6, .int (-1)), (2, .int (nI i)), (3, .int (nI j)), (4, .int (nI la)), (5, .int (nI k)), (0, .ref (q 0)), (1, .int want)]) hx hb dX1_walk_30 hl (by decide) rfl (fun ls hl => ?_)
        refine lv_iload hx hb dX1_walk_32 (lv_at hl 0 rfl) ?_
        refine lv_if_ge (tgt := 50) hx hb dX1_walk_34 (by decide) (fun c_34 => False.elim (absurd c_34 (by decide +kernel))) (fun c_34 => ?_)
        refine lv_iload_n hx hb dX1_walk_37 rfl (lv_at hl 6 rfl) ?_
        refine lv_if_ge (tgt := 46) hx hb dX1_walk_38 (by decide) (fun c_38 => ?_) (fun c_38 => ?_)
        · 
          refine lv_sipush (v := -1000) hx hb dX1_walk_46 (by decide +kernel) ?_
          exact tw_iret hx hb hr hlocks hK hP hD hS (by rw [← g6]; exact ((if_pos hend).trans (if_pos c_38)).symm) dX1_walk_49
        · 
          refine lv_iload hx hb dX1_walk_41 (lv_at hl 4 rfl) ?_
          refine lv_goto (tgt := 49) hx hb dX1_walk_43 (by decide) ?_
          exact tw_iret hx hb hr hlocks hK hP hD hS (by rw [← g6]; exact ((if_pos hend).trans (if_neg c_38)).symm) dX1_walk_49
      · 
        rw [if_neg hend]
        obtain ⟨sg, hsg⟩ : ∃ z, z = m_srt lt ge gu op le (m_wrk lt ge gu op le 0 (cn 0) (cn 1) (cn 0 + 1) (sc, ct)).1 (cn 0) (cn 1) i j la := ⟨_, rfl⟩
        rw [← hsg]
        have hs3 : sg < 3 := by rw [hsg]; exact m_srt_lt _ _ _ _ _ _ _ _ _ _ _
        have hbox := h3 i j la g1 g2 g3 hend
        rw [← hsg] at hbox
        have hstep : m_wlk (m_srt lt ge gu op le (m_wrk lt ge gu op le 0 (cn 0) (cn 1) (cn 0 + 1) (sc, ct)).1 (cn 0) (cn 1)) (cn 0) (cn 1) want (f + 1) i j la k = if nI k = want then nI (m_srt lt ge gu op le (m_wrk lt ge gu op le 0 (cn 0) (cn 1) (cn 0 + 1) (sc, ct)).1 (cn 0) (cn 1) i j la) else m_wlk (m_srt lt ge gu op le (m_wrk lt ge gu op le 0 (cn 0) (cn 1) (cn 0 + 1) (sc, ct)).1 (cn 0) (cn 1)) (cn 0) (cn 1) want f (if m_srt lt ge gu op le (m_wrk lt ge gu op le 0 (cn 0) (cn 1) (cn 0 + 1) (sc, ct)).1 (cn 0) (cn 1) i j la = 2 then i else i + 1) (if m_srt lt ge gu op le (m_wrk lt ge gu op le 0 (cn 0) (cn 1) (cn 0 + 1) (sc, ct)).1 (cn 0) (cn 1) i j la = 1 then j else j + 1) (m_srt lt ge gu op le (m_wrk lt ge gu op le 0 (cn 0) (cn 1) (cn 0 + 1) (sc, ct)).1 (cn 0) (cn 1) i j la) (k + 1) := if_neg hend
        rw [← hsg] at hstep
        refine lv_istore (lv' := [(6, .int (nI sg)), (2, .int (nI i)), (3, .int (nI j)), (4, .int (nI la)), (5, .int (nI k)), (0, .ref (q 0)), (1, .int want)]) hx hb dX1_walk_30 hl (by decide) rfl (fun ls hl => ?_)
        refine lv_iload hx hb dX1_walk_32 (lv_at hl 0 rfl) ?_
        refine tw_if_ge (tgt := 50) hx hb (by omega) dX1_walk_34 (by decide) ?_
        refine lv_iload hx hb dX1_walk_50 (lv_at hl 4 rfl) ?_
        refine lv_iload_n hx hb dX1_walk_52 rfl (lv_at hl 6 rfl) ?_
        refine lv_icmp_ne (tgt := 59) hx hb dX1_walk_53 (by decide) (fun c_53 => ?_) (fun c_53 => ?_)
        · 
          refine lv_iload hx hb dX1_walk_59 (lv_at hl 0 rfl) ?_
          refine lv_iconst (v := nI 2) hx hb dX1_walk_61 (by decide +kernel) ?_
          refine tw_icmp_eq (tgt := 68) hx hb (by omega) (by omega) dX1_walk_62 (by decide) (fun c_62 => ?_) (fun c_62 => ?_)
          · 
            refine lv_iload hx hb dX1_walk_68 (lv_at hl 0 rfl) ?_
            refine lv_iconst (v := nI 1) hx hb dX1_walk_70 (by decide +kernel) ?_
            refine tw_icmp_eq (tgt := 77) hx hb (by omega) (by omega) dX1_walk_71 (by decide) (fun c_71 => False.elim (by omega)) (fun c_71 => ?_)
            refine tw_iinc (lv' := [(3, .int (nI (j + 1))), (6, .int (nI sg)), (2, .int (nI i)), (4, .int (nI la)), (5, .int (nI k)), (0, .ref (q 0)), (1, .int want)]) hx hb dX1_walk_74 hl (k := 2) rfl (by decide) rfl (fun ls hl => ?_)
            refine lv_iload hx hb dX1_walk_77 (lv_at hl 1 rfl) ?_
            refine lv_istore (lv' := [(4, .int (nI sg)), (3, .int (nI (j + 1))), (6, .int (nI sg)), (2, .int (nI i)), (5, .int (nI k)), (0, .ref (q 0)), (1, .int want)]) hx hb dX1_walk_79 hl (by decide) rfl (fun ls hl => ?_)
            refine tw_iinc (lv' := [(5, .int (nI (k + 1))), (4, .int (nI sg)), (3, .int (nI (j + 1))), (6, .int (nI sg)), (2, .int (nI i)), (0, .ref (q 0)), (1, .int want)]) hx hb dX1_walk_81 hl (k := 4) rfl (by decide) rfl (fun ls hl => ?_)
            refine lv_goto (tgt := 15) hx hb dX1_walk_84 (by decide) ?_
            exact ih i (j + 1) sg (k + 1) (by omega) (by omega) (by omega) (by omega) (by rw [← g6, hstep, if_neg c_53, if_pos c_62, if_neg c_71]) _ _ _ hP hD hS (lv_sub hl [4, 2, 1, 0, 5, 6] rfl)
          · 
            refine tw_iinc (lv' := [(2, .int (nI (i + 1))), (6, .int (nI sg)), (3, .int (nI j)), (4, .int (nI la)), (5, .int (nI k)), (0, .ref (q 0)), (1, .int want)]) hx hb dX1_walk_65 hl (k := 1) rfl (by decide) rfl (fun ls hl => ?_)
            refine lv_iload hx hb dX1_walk_68 (lv_at hl 1 rfl) ?_
            refine lv_iconst (v := nI 1) hx hb dX1_walk_70 (by decide +kernel) ?_
            refine tw_icmp_eq (tgt := 77) hx hb (by omega) (by omega) dX1_walk_71 (by decide) (fun c_71 => ?_) (fun c_71 => ?_)
            · 
              refine lv_iload hx hb dX1_walk_77 (lv_at hl 1 rfl) ?_
              refine lv_istore (lv' := [(4, .int (nI sg)), (2, .int (nI (i + 1))), (6, .int (nI sg)), (3, .int (nI j)), (5, .int (nI k)), (0, .ref (q 0)), (1, .int want)]) hx hb dX1_walk_79 hl (by decide) rfl (fun ls hl => ?_)
              refine tw_iinc (lv' := [(5, .int (nI (k + 1))), (4, .int (nI sg)), (2, .int (nI (i + 1))), (6, .int (nI sg)), (3, .int (nI j)), (0, .ref (q 0)), (1, .int want)]) hx hb dX1_walk_81 hl (k := 4) rfl (by decide) rfl (fun ls hl => ?_)
              refine lv_goto (tgt := 15) hx hb dX1_walk_84 (by decide) ?_
              exact ih (i + 1) j sg (k + 1) (by omega) (by omega) (by omega) (by omega) (by rw [← g6, hstep, if_neg c_53, if_neg c_62, if_pos c_71]) _ _ _ hP hD hS (lv_sub hl [2, 4, 1, 0, 5, 6] rfl)
            · 
              refine tw_iinc (lv' := [(3, .int (nI (j + 1))), (2, .int (nI (i + 1))), (6, .int (nI sg)), (4, .int (nI la)), (5, .int (nI k)), (0, .ref (q 0)), (1, .int want)]) hx hb dX1_walk_74 hl (k := 2) rfl (by decide) rfl (fun ls hl => ?_)
              refine lv_iload hx hb dX1_walk_77 (lv_at hl 2 rfl) ?_
              refine lv_istore (lv' := [(4, .int (nI sg)), (3, .int (nI (j + 1))), (2, .int (nI (i + 1))), (6, .int (nI sg)), (5, .int (nI k)), (0, .ref (q 0)), (1, .int want)]) hx hb dX1_walk_79 hl (by decide) rfl (fun ls hl => ?_)
              refine tw_iinc (lv' := [(5, .int (nI (k + 1))), (4, .int (nI sg)), (3, .int (nI (j + 1))), (2, .int (nI (i + 1))), (6, .int (nI sg)), (0, .ref (q 0)), (1, .int want)]) hx hb dX1_walk_81 hl (k := 4) rfl (by decide) rfl (fun ls hl => ?_)
              refine lv_goto (tgt := 15) hx hb dX1_walk_84 (by decide) ?_
              exact ih (i + 1) (j + 1) sg (k + 1) (by omega) (by omega) (by omega) (by omega) (by rw [← g6, hstep, if_neg c_53, if_neg c_62, if_neg c_71]) _ _ _ hP hD hS (lv_sub hl [3, 2, 1, 0, 5, 6] rfl)
        · 
          refine lv_iload hx hb dX1_walk_56 (lv_at hl 0 rfl) ?_
          exact tw_iret hx hb hr hlocks hK hP hD hS (by rw [← g6, hstep, if_pos c_53]) dX1_walk_58
  refine lv_iconst (v := nI 0) hx hb dX1_walk_0 (by decide +kernel) ?_
  refine lv_istore_n (lv' := [(2, .int (nI 0)), (0, .ref (q 0)), (1, .int want)]) hx hb dX1_walk_1 rfl hl (by decide) rfl (fun ls hl => ?_)
  refine lv_iconst (v := nI 0) hx hb dX1_walk_2 (by decide +kernel) ?_
  refine lv_istore_n (lv' := [(3, .int (nI 0)), (2, .int (nI 0)), (0, .ref (q 0)), (1, .int want)]) hx hb dX1_walk_3 rfl hl (by decide) rfl (fun ls hl => ?_)
  refine lv_iconst (v := nI 0) hx hb dX1_walk_4 (by decide +kernel) ?_
  refine lv_istore (lv' := [(4, .int (nI 0)), (3, .int (nI 0)), (2, .int (nI 0)), (0, .ref (q 0)), (1, .int want)]) hx hb dX1_walk_5 hl (by decide) rfl (fun ls hl => ?_)
  refine lv_iconst (v := nI 0) hx hb dX1_walk_7 (by decide +kernel) ?_
  refine lv_istore (lv' := [(5, .int (nI 0)), (4, .int (nI 0)), (3, .int (nI 0)), (2, .int (nI 0)), (0, .ref (q 0)), (1, .int want)]) hx hb dX1_walk_8 hl (by decide) rfl (fun ls hl => ?_)
  refine lv_aload_n hx hb dX1_walk_10 rfl (lv_at hl 4 rfl) ?_
  refine tw_calli (n := 0) (rest := []) (wr := []) (w' := (mw q d lt cn ge gu op le ((m_wrk lt ge gu op le 0 (cn 0) (cn 1) (cn 0 + 1) (sc, ct)).1) ((m_wrk lt ge gu op le 0 (cn 0) (cn 1) (cn 0 + 1) (sc, ct)).2))) (kX1_best l D q d lt cn ge gu op le sc ct (by omega) (by omega)) S (lw_V q240 q207 q208 q21 q209) (by decide +kernel) ⟨Nat.le_of_ble_eq_true rfl, Nat.le_of_ble_eq_true rfl⟩ hK hP hD hS hA [0, 1, 2, 3, 4] [] [0, 1, 2, 3] rfl rfl (by decide) (by decide) (fun i h => absurd h List.not_mem_nil) rfl (ci := 1) rfl (q0 := 0) rfl rfl rfl hl.1 (Nat.le_of_ble_eq_true rfl) dX1_walk_11 ⟨Nat.zero_le _, Nat.zero_le _⟩ (fun H locs hP hD hS => ?_)
  have hP : va_P D vwCl (mw q d lt cn ge gu op le ((m_wrk lt ge gu op le 0 (cn 0) (cn 1) (cn 0 + 1) (sc, ct)).1) ((m_wrk lt ge gu op le 0 (cn 0) (cn 1) (cn 0 + 1) (sc, ct)).2)) H := hP
  have hD : va_D A (mw q d lt cn ge gu op le ((m_wrk lt ge gu op le 0 (cn 0) (cn 1) (cn 0 + 1) (sc, ct)).1) ((m_wrk lt ge gu op le 0 (cn 0) (cn 1) (cn 0 + 1) (sc, ct)).2)) := hD
  refine lv_pop hx hb dX1_walk_14 rfl ?_
  exact loop 21 0 0 0 0 (by omega) (by omega) (by omega) (by omega) rfl _ _ _ hP hD hS (lv_sub hl [3, 2, 1, 0, 4, 5] rfl)
set_option maxHeartbeats 4000000 in
set_option maxRecDepth 100000 in
theorem kX1_columns  (h1 : cn 0 ≤ 10) (h2 : cn 1 ≤ 10) (h3 : ∀ i j la : Nat, i ≤ cn 0 → j ≤ cn 1 → la < 3 → ¬ (i = cn 0 ∧ j = cn 1) → (m_srt lt ge gu op le (m_wrk lt ge gu op le 0 (cn 0) (cn 1) (cn 0 + 1) (sc, ct)).1 (cn 0) (cn 1) i j la = 2 ∨ i + 1 ≤ cn 0) ∧ (m_srt lt ge gu op le (m_wrk lt ge gu op le 0 (cn 0) (cn 1) (cn 0 + 1) (sc, ct)).1 (cn 0) (cn 1) i j la = 1 ∨ j + 1 ≤ cn 1)) : Ci l yX1_columns cX1_columns 1 .int 5 123 D vwCl (mt d) [.ref (q 0)] (mw q d lt cn ge gu op le sc ct) (m_wlk (m_srt lt ge gu op le (m_wrk lt ge gu op le 0 (cn 0) (cn 1) (cn 0 + 1) (sc, ct)).1 (cn 0) (cn 1)) (cn 0) (cn 1) (-1) 21 0 0 0 0) (mw q d lt cn ge gu op le ((m_wrk lt ge gu op le 0 (cn 0) (cn 1) (cn 0 + 1) (sc, ct)).1) ((m_wrk lt ge gu op le 0 (cn 0) (cn 1) (cn 0 + 1) (sc, ct)).2)) := by
  refine Ci.of (by decide +kernel) (Nat.le_of_ble_eq_true rfl) ?_
  intro p e s m below meth c A ls hx hb hr hlocks hml hown hts hK hP hD hS hA hl
  have hown : s.vm.findClass RX1 = some m.cls := hown
  have S : CallFix p m c cX1_columns 1 s ([.ref (q 0)] : List Value).toArray lw_all RX1 := ⟨hx, hb, hml, hown, hts⟩
  have hl : lv_has ls 1 [(0, .ref (q 0))] := hl
  refine lv_aload_n hx hb dX1_columns_0 rfl (lv_at hl 0 rfl) ?_
  refine lv_iconst (v := -1) hx hb dX1_columns_1 (by decide +kernel) ?_
  refine tw_calli (n := 1) (rest := []) (wr := []) (w' := (mw q d lt cn ge gu op le ((m_wrk lt ge gu op le 0 (cn 0) (cn 1) (cn 0 + 1) (sc, ct)).1) ((m_wrk lt ge gu op le 0 (cn 0) (cn 1) (cn 0 + 1) (sc, ct)).2))) (kX1_walk l D q d lt cn ge gu op le sc ct (-1) h1 h2 h3) S (lw_V q236 q238 qs16 q21 q239) (by decide +kernel) ⟨Nat.le_of_ble_eq_true rfl, Nat.le_of_ble_eq_true rfl⟩ hK hP hD hS hA [0, 1, 2, 3, 4] [] [0, 1, 2, 3] rfl rfl (by decide) (by decide) (fun i h => absurd h List.not_mem_nil) rfl (ci := 1) rfl (q0 := 0) rfl rfl rfl hl.1 (Nat.le_of_ble_eq_true rfl) dX1_columns_2 ⟨Nat.zero_le _, Nat.zero_le _⟩ (fun H locs hP hD hS => ?_)
  have hP : va_P D vwCl (mw q d lt cn ge gu op le ((m_wrk lt ge gu op le 0 (cn 0) (cn 1) (cn 0 + 1) (sc, ct)).1) ((m_wrk lt ge gu op le 0 (cn 0) (cn 1) (cn 0 + 1) (sc, ct)).2)) H := hP
  have hD : va_D A (mw q d lt cn ge gu op le ((m_wrk lt ge gu op le 0 (cn 0) (cn 1) (cn 0 + 1) (sc, ct)).1) ((m_wrk lt ge gu op le 0 (cn 0) (cn 1) (cn 0 + 1) (sc, ct)).2)) := hD
  exact tw_iret hx hb hr hlocks hK hP hD hS (rfl) dX1_columns_5
set_option maxHeartbeats 4000000 in
set_option maxRecDepth 100000 in
theorem kX1_column_neg (w : Int32) (h1 : w < 0) : Ci l yX1_column cX1_column 2 .int 5 123 D vwCl (mt d) [.ref (q 0), .int w] (mw q d lt cn ge gu op le sc ct) (-1000) (mw q d lt cn ge gu op le sc ct) := by
  refine Ci.of (by decide +kernel) (Nat.le_of_ble_eq_true rfl) ?_
  intro p e s m below meth c A ls hx hb hr hlocks hml hown hts hK hP hD hS hA hl
  have hown : s.vm.findClass RX1 = some m.cls := hown
  have S : CallFix p m c cX1_column 2 s ([.ref (q 0), .int w] : List Value).toArray lw_all RX1 := ⟨hx, hb, hml, hown, hts⟩
  have hl : lv_has ls 2 [(0, .ref (q 0)), (1, .int w)] := hl
  refine lv_iload_n hx hb dX1_column_0 rfl (lv_at hl 1 rfl) ?_
  refine lv_if_ge (tgt := 10) hx hb dX1_column_1 (by decide) (fun c_1 => False.elim (tw_nlt c_1 h1)) (fun c_1 => ?_)
  refine lv_sipush (v := -1000) hx hb dX1_column_4 (by decide +kernel) ?_
  refine lv_goto (tgt := 15) hx hb dX1_column_7 (by decide) ?_
  exact tw_iret hx hb hr hlocks hK hP hD hS (rfl) dX1_column_15
set_option maxHeartbeats 4000000 in
set_option maxRecDepth 100000 in
theorem kX1_column_pos (w : Int32) (h1 : cn 0 ≤ 10) (h2 : cn 1 ≤ 10) (h3 : ∀ i j la : Nat, i ≤ cn 0 → j ≤ cn 1 → la < 3 → ¬ (i = cn 0 ∧ j = cn 1) → (m_srt lt ge gu op le (m_wrk lt ge gu op le 0 (cn 0) (cn 1) (cn 0 + 1) (sc, ct)).1 (cn 0) (cn 1) i j la = 2 ∨ i + 1 ≤ cn 0) ∧ (m_srt lt ge gu op le (m_wrk lt ge gu op le 0 (cn 0) (cn 1) (cn 0 + 1) (sc, ct)).1 (cn 0) (cn 1) i j la = 1 ∨ j + 1 ≤ cn 1)) (h4 : ¬ w < 0) : Ci l yX1_column cX1_column 2 .int 5 123 D vwCl (mt d) [.ref (q 0), .int w] (mw q d lt cn ge gu op le sc ct) (m_wlk (m_srt lt ge gu op le (m_wrk lt ge gu op le 0 (cn 0) (cn 1) (cn 0 + 1) (sc, ct)).1 (cn 0) (cn 1)) (cn 0) (cn 1) w 21 0 0 0 0) (mw q d lt cn ge gu op le ((m_wrk lt ge gu op le 0 (cn 0) (cn 1) (cn 0 + 1) (sc, ct)).1) ((m_wrk lt ge gu op le 0 (cn 0) (cn 1) (cn 0 + 1) (sc, ct)).2)) := by
  refine Ci.of (by decide +kernel) (Nat.le_of_ble_eq_true rfl) ?_
  intro p e s m below meth c A ls hx hb hr hlocks hml hown hts hK hP hD hS hA hl
  have hown : s.vm.findClass RX1 = some m.cls := hown
  have S : CallFix p m c cX1_column 2 s ([.ref (q 0), .int w] : List Value).toArray lw_all RX1 := ⟨hx, hb, hml, hown, hts⟩
  have hl : lv_has ls 2 [(0, .ref (q 0)), (1, .int w)] := hl
  refine lv_iload_n hx hb dX1_column_0 rfl (lv_at hl 1 rfl) ?_
  refine lv_if_ge (tgt := 10) hx hb dX1_column_1 (by decide) (fun c_1 => ?_) (fun c_1 => False.elim (c_1 (tw_le_of h4)))
  refine lv_aload_n hx hb dX1_column_10 rfl (lv_at hl 0 rfl) ?_
  refine lv_iload_n hx hb dX1_column_11 rfl (lv_at hl 1 rfl) ?_
  refine tw_calli (n := 1) (rest := []) (wr := []) (w' := (mw q d lt cn ge gu op le ((m_wrk lt ge gu op le 0 (cn 0) (cn 1) (cn 0 + 1) (sc, ct)).1) ((m_wrk lt ge gu op le 0 (cn 0) (cn 1) (cn 0 + 1) (sc, ct)).2))) (kX1_walk l D q d lt cn ge gu op le sc ct w h1 h2 h3) S (lw_V q236 q238 qs16 q21 q239) (by decide +kernel) ⟨Nat.le_of_ble_eq_true rfl, Nat.le_of_ble_eq_true rfl⟩ hK hP hD hS hA [0, 1, 2, 3, 4] [] [0, 1, 2, 3] rfl rfl (by decide) (by decide) (fun i h => absurd h List.not_mem_nil) rfl (ci := 1) rfl (q0 := 0) rfl rfl rfl hl.1 (Nat.le_of_ble_eq_true rfl) dX1_column_12 ⟨Nat.zero_le _, Nat.zero_le _⟩ (fun H locs hP hD hS => ?_)
  have hP : va_P D vwCl (mw q d lt cn ge gu op le ((m_wrk lt ge gu op le 0 (cn 0) (cn 1) (cn 0 + 1) (sc, ct)).1) ((m_wrk lt ge gu op le 0 (cn 0) (cn 1) (cn 0 + 1) (sc, ct)).2)) H := hP
  have hD : va_D A (mw q d lt cn ge gu op le ((m_wrk lt ge gu op le 0 (cn 0) (cn 1) (cn 0 + 1) (sc, ct)).1) ((m_wrk lt ge gu op le 0 (cn 0) (cn 1) (cn 0 + 1) (sc, ct)).2)) := hD
  exact tw_iret hx hb hr hlocks hK hP hD hS (rfl) dX1_column_15
set_option maxHeartbeats 4000000 in
set_option maxRecDepth 100000 in
theorem kX1_local  (h1 : cn 0 ≤ 10) (h2 : cn 1 ≤ 10) : Ci l yX1_local cX1_local 4 .int 3 77 D vwCl (mt d) [.ref (q 0)] (mw q d lt cn ge gu op le sc ct) (al_mx2 (fun x y => (m_wrk lt ge gu op le 1 (cn 0) (cn 1) (cn 0 + 1) (sc, ct)).1 ((x * 11 + y) * 3)) (cn 1 + 1) (nI 0) (cn 0 + 1)) (mw q d lt cn ge gu op le ((m_wrk lt ge gu op le 1 (cn 0) (cn 1) (cn 0 + 1) (sc, ct)).1) ((m_wrk lt ge gu op le 1 (cn 0) (cn 1) (cn 0 + 1) (sc, ct)).2)) := by
  refine Ci.of (by decide +kernel) (Nat.le_of_ble_eq_true rfl) ?_
  intro p e s m below meth c A ls hx hb hr hlocks hml hown hts hK hP hD hS hA hl
  have hown : s.vm.findClass RX1 = some m.cls := hown
  have S : CallFix p m c cX1_local 4 s ([.ref (q 0)] : List Value).toArray lw_all RX1 := ⟨hx, hb, hml, hown, hts⟩
  have hl : lv_has ls 4 [(0, .ref (q 0))] := hl
  have loop : ∀ (n i : Nat), i ≤ cn 0 + 1 → cn 0 + 2 ≤ i + n → ∀ (H : Heap) (locs : List Loc) (ls : Array Slot), va_P D vwCl (mw q d lt cn ge gu op le ((m_wrk lt ge gu op le 1 (cn 0) (cn 1) (cn 0 + 1) (sc, ct)).1) ((m_wrk lt ge gu op le 1 (cn 0) (cn 1) (cn 0 + 1) (sc, ct)).2)) H → va_D A (mw q d lt cn ge gu op le ((m_wrk lt ge gu op le 1 (cn 0) (cn 1) (cn 0 + 1) (sc, ct)).1) ((m_wrk lt ge gu op le 1 (cn 0) (cn 1) (cn 0 + 1) (sc, ct)).2)) → va_S A s.heap H locs → lv_has ls 4 [(2, .int (nI i)), (1, .int (al_mx2 (fun x y => (m_wrk lt ge gu op le 1 (cn 0) (cn 1) (cn 0 + 1) (sc, ct)).1 ((x * 11 + y) * 3)) (cn 1 + 1) (nI 0) i)), (0, .ref (q 0))] → W p l e (tw_rm 3 77) s m ([.ref (q 0)] : List Value).toArray below meth c H locs 0 0 (MQ below (tw_Qi D vwCl (mt d) (al_mx2 (fun x y => (m_wrk lt ge gu op le 1 (cn 0) (cn 1) (cn 0 + 1) (sc, ct)).1 ((x * 11 + y) * 3)) (cn 1 + 1) (nI 0) (cn 0 + 1)) (mw q d lt cn ge gu op le ((m_wrk lt ge gu op le 1 (cn 0) (cn 1) (cn 0 + 1) (sc, ct)).1) ((m_wrk lt ge gu op le 1 (cn 0) (cn 1) (cn 0 + 1) (sc, ct)).2)) A) ([.ref (q 0)] : List Value).toArray s 0 0 A) (F0 m 21 ls []) := by
    intro n
    induction n with
    | zero => intro k hk hn; exact absurd hn (by omega)
    | succ n ih =>
      intro i hi hn H locs ls hP hD hS hl
      refine lv_iload_n hx hb dX1_local_21 rfl (lv_at hl 0 rfl) ?_
      refine lv_aload_n hx hb dX1_local_22 rfl (lv_at hl 2 rfl) ?_
      refine va_get (D := D) (ci := 1) (v := .ref (q 2)) (C := RX1) (T := TX1) (N := 8) hx hb hts in_X1 hown hK hP 0 rfl rfl 1 (by decide) (hts _ q170) (fun _ h9 => h9) rfl dX1_local_23 ?_
      refine lv_iconst (v := nI 0) hx hb dX1_local_26 (by decide +kernel) ?_
      refine tw_iald hx hb hK hP 2 1 rfl rfl (by omega) (by decide) dX1_local_27 ?_
      refine tw_icmp_gt (tgt := 86) hx hb (by omega) (by omega) dX1_local_28 (by decide) (fun c_28 => ?_) (fun c_28 => ?_)
      · 
        have hi3 : i = cn 0 + 1 := by omega
        subst hi3
        refine lv_iload_n hx hb dX1_local_86 rfl (lv_at hl 1 rfl) ?_
        exact tw_iret hx hb hr hlocks hK hP hD hS (rfl) dX1_local_87
      · 
        have inner : ∀ (n j : Nat), j ≤ cn 1 + 1 → cn 1 + 2 ≤ j + n → ∀ (H : Heap) (locs : List Loc) (ls : Array Slot), va_P D vwCl (mw q d lt cn ge gu op le ((m_wrk lt ge gu op le 1 (cn 0) (cn 1) (cn 0 + 1) (sc, ct)).1) ((m_wrk lt ge gu op le 1 (cn 0) (cn 1) (cn 0 + 1) (sc, ct)).2)) H → va_D A (mw q d lt cn ge gu op le ((m_wrk lt ge gu op le 1 (cn 0) (cn 1) (cn 0 + 1) (sc, ct)).1) ((m_wrk lt ge gu op le 1 (cn 0) (cn 1) (cn 0 + 1) (sc, ct)).2)) → va_S A s.heap H locs → lv_has ls 4 [(3, .int (nI j)), (1, .int (al_mx (fun y => (m_wrk lt ge gu op le 1 (cn 0) (cn 1) (cn 0 + 1) (sc, ct)).1 ((i * 11 + y) * 3)) (al_mx2 (fun x y => (m_wrk lt ge gu op le 1 (cn 0) (cn 1) (cn 0 + 1) (sc, ct)).1 ((x * 11 + y) * 3)) (cn 1 + 1) (nI 0) i) j)), (2, .int (nI i)), (0, .ref (q 0))] → W p l e (tw_rm 3 77) s m ([.ref (q 0)] : List Value).toArray below meth c H locs 0 0 (MQ below (tw_Qi D vwCl (mt d) (al_mx2 (fun x y => (m_wrk lt ge gu op le 1 (cn 0) (cn 1) (cn 0 + 1) (sc, ct)).1 ((x * 11 + y) * 3)) (cn 1 + 1) (nI 0) (cn 0 + 1)) (mw q d lt cn ge gu op le ((m_wrk lt ge gu op le 1 (cn 0) (cn 1) (cn 0 + 1) (sc, ct)).1) ((m_wrk lt ge gu op le 1 (cn 0) (cn 1) (cn 0 + 1) (sc, ct)).2)) A) ([.ref (q 0)] : List Value).toArray s 0 0 A) (F0 m 33 ls []) := by
          intro n2
          induction n2 with
          | zero => intro k hk hn; exact absurd hn (by omega)
          | succ n2 ih2 =>
            intro j hj hn2 H locs ls hP hD hS hl
            refine lv_iload_n hx hb dX1_local_33 rfl (lv_at hl 0 rfl) ?_
            refine lv_aload_n hx hb dX1_local_34 rfl (lv_at hl 3 rfl) ?_
            refine va_get (D := D) (ci := 1) (v := .ref (q 2)) (C := RX1) (T := TX1) (N := 8) hx hb hts in_X1 hown hK hP 0 rfl rfl 1 (by decide) (hts _ q170) (fun _ h9 => h9) rfl dX1_local_35 ?_
            refine lv_iconst (v := nI 1) hx hb dX1_local_38 (by decide +kernel) ?_
            refine tw_iald hx hb hK hP 2 1 rfl rfl (by omega) (by decide) dX1_local_39 ?_
            refine tw_icmp_gt (tgt := 80) hx hb (by omega) (by omega) dX1_local_40 (by decide) (fun c_40 => ?_) (fun c_40 => ?_)
            · 
              have hj3 : j = cn 1 + 1 := by omega
              subst hj3
              refine tw_iinc (lv' := [(2, .int (nI (i + 1))), (3, .int (nI (cn 1 + 1))), (1, .int (al_mx (fun y => (m_wrk lt ge gu op le 1 (cn 0) (cn 1) (cn 0 + 1) (sc, ct)).1 ((i * 11 + y) * 3)) (al_mx2 (fun x y => (m_wrk lt ge gu op le 1 (cn 0) (cn 1) (cn 0 + 1) (sc, ct)).1 ((x * 11 + y) * 3)) (cn 1 + 1) (nI 0) i) (cn 1 + 1))), (0, .ref (q 0))]) hx hb dX1_local_80 hl (k := 2) rfl (by decide) rfl (fun ls hl => ?_)
              refine lv_goto (tgt := 21) hx hb dX1_local_83 (by decide) ?_
              exact ih (i + 1) (by omega) (by omega) _ _ _ hP hD hS (lv_sub hl [0, 2, 3] rfl)
            · 
              refine lv_aload_n hx hb dX1_local_43 rfl (lv_at hl 3 rfl) ?_
              refine va_get (D := D) (ci := 1) (v := .ref (q 3)) (C := RX1) (T := TX1) (N := 8) hx hb hts in_X1 hown hK hP 0 rfl rfl 6 (by decide) (hts _ q175) (fun _ h9 => h9) rfl dX1_local_44 ?_
              refine lv_iload_n hx hb dX1_local_47 rfl (lv_at hl 2 rfl) ?_
              refine lv_bipush (v := nI 11) hx hb dX1_local_48 (by decide +kernel) ?_
              refine tw_imul hx hb dX1_local_50 ?_
              refine lv_iload_n hx hb dX1_local_51 rfl (lv_at hl 0 rfl) ?_
              refine tw_iadd hx hb dX1_local_52 ?_
              refine lv_iconst (v := nI 3) hx hb dX1_local_53 (by decide +kernel) ?_
              refine tw_imul hx hb dX1_local_54 ?_
              refine tw_iald hx hb hK hP 3 2 rfl rfl (by omega) (by decide) dX1_local_55 ?_
              refine lv_iload_n hx hb dX1_local_56 rfl (lv_at hl 1 rfl) ?_
              refine lv_icmp_le (tgt := 74) hx hb dX1_local_57 (by decide) (fun c_57 => ?_) (fun c_57 => ?_)
              · 
                refine tw_iinc (lv' := [(3, .int (nI (j + 1))), (1, .int (al_mx (fun y => (m_wrk lt ge gu op le 1 (cn 0) (cn 1) (cn 0 + 1) (sc, ct)).1 ((i * 11 + y) * 3)) (al_mx2 (fun x y => (m_wrk lt ge gu op le 1 (cn 0) (cn 1) (cn 0 + 1) (sc, ct)).1 ((x * 11 + y) * 3)) (cn 1 + 1) (nI 0) i) j)), (2, .int (nI i)), (0, .ref (q 0))]) hx hb dX1_local_74 hl (k := 0) rfl (by decide) rfl (fun ls hl => ?_)
                refine lv_goto (tgt := 33) hx hb dX1_local_77 (by decide) ?_
                have hh : al_mx (fun y => (m_wrk lt ge gu op le 1 (cn 0) (cn 1) (cn 0 + 1) (sc, ct)).1 ((i * 11 + y) * 3)) (al_mx2 (fun x y => (m_wrk lt ge gu op le 1 (cn 0) (cn 1) (cn 0 + 1) (sc, ct)).1 ((x * 11 + y) * 3)) (cn 1 + 1) (nI 0) i) (j + 1) = al_mx (fun y => (m_wrk lt ge gu op le 1 (cn 0) (cn 1) (cn 0 + 1) (sc, ct)).1 ((i * 11 + y) * 3)) (al_mx2 (fun x y => (m_wrk lt ge gu op le 1 (cn 0) (cn 1) (cn 0 + 1) (sc, ct)).1 ((x * 11 + y) * 3)) (cn 1 + 1) (nI 0) i) j := if_pos c_57
                exact ih2 (j + 1) (by omega) (by omega) _ _ _ hP hD hS (by rw [hh]; exact (lv_sub hl [0, 1, 2, 3] rfl))
              · 
                refine lv_aload_n hx hb dX1_local_60 rfl (lv_at hl 3 rfl) ?_
                refine va_get (D := D) (ci := 1) (v := .ref (q 3)) (C := RX1) (T := TX1) (N := 8) hx hb hts in_X1 hown hK hP 0 rfl rfl 6 (by decide) (hts _ q175) (fun _ h9 => h9) rfl dX1_local_61 ?_
                refine lv_iload_n hx hb dX1_local_64 rfl (lv_at hl 2 rfl) ?_
                refine lv_bipush (v := nI 11) hx hb dX1_local_65 (by decide +kernel) ?_
                refine tw_imul hx hb dX1_local_67 ?_
                refine lv_iload_n hx hb dX1_local_68 rfl (lv_at hl 0 rfl) ?_
                refine tw_iadd hx hb dX1_local_69 ?_
                refine lv_iconst (v := nI 3) hx hb dX1_local_70 (by decide +kernel) ?_
                refine tw_imul hx hb dX1_local_71 ?_
                refine tw_iald hx hb hK hP 3 2 rfl rfl (by omega) (by decide) dX1_local_72 ?_
                refine lv_istore_n (lv' := [(1, .int (((m_wrk lt ge gu op le 1 (cn 0) (cn 1) (cn 0 + 1) (sc, ct)).1) ((i * 11 + j) * 3))), (3, .int (nI j)), (2, .int (nI i)), (0, .ref (q 0))]) hx hb dX1_local_73 rfl hl (by decide) rfl (fun ls hl => ?_)
                refine tw_iinc (lv' := [(3, .int (nI (j + 1))), (1, .int (((m_wrk lt ge gu op le 1 (cn 0) (cn 1) (cn 0 + 1) (sc, ct)).1) ((i * 11 + j) * 3))), (2, .int (nI i)), (0, .ref (q 0))]) hx hb dX1_local_74 hl (k := 1) rfl (by decide) rfl (fun ls hl => ?_)
                refine lv_goto (tgt := 33) hx hb dX1_local_77 (by decide) ?_
                have hh : al_mx (fun y => (m_wrk lt ge gu op le 1 (cn 0) (cn 1) (cn 0 + 1) (sc, ct)).1 ((i * 11 + y) * 3)) (al_mx2 (fun x y => (m_wrk lt ge gu op le 1 (cn 0) (cn 1) (cn 0 + 1) (sc, ct)).1 ((x * 11 + y) * 3)) (cn 1 + 1) (nI 0) i) (j + 1) = (m_wrk lt ge gu op le 1 (cn 0) (cn 1) (cn 0 + 1) (sc, ct)).1 ((i * 11 + j) * 3) := if_neg c_57
                exact ih2 (j + 1) (by omega) (by omega) _ _ _ hP hD hS (by rw [hh]; exact (lv_sub hl [0, 1, 2, 3] rfl))
        refine lv_iconst (v := nI 0) hx hb dX1_local_31 (by decide +kernel) ?_
        refine lv_istore_n (lv' := [(3, .int (nI 0)), (2, .int (nI i)), (1, .int (al_mx2 (fun x y => (m_wrk lt ge gu op le 1 (cn 0) (cn 1) (cn 0 + 1) (sc, ct)).1 ((x * 11 + y) * 3)) (cn 1 + 1) (nI 0) i)), (0, .ref (q 0))]) hx hb dX1_local_32 rfl hl (by decide) rfl (fun ls hl => ?_)
        exact inner (cn 1 + 2) 0 (by omega) (by omega) _ _ _ hP hD hS (lv_sub hl [0, 2, 1, 3] rfl)
  refine lv_iconst (v := nI 0) hx hb dX1_local_0 (by decide +kernel) ?_
  refine lv_istore_n (lv' := [(1, .int (nI 0)), (0, .ref (q 0))]) hx hb dX1_local_1 rfl hl (by decide) rfl (fun ls hl => ?_)
  refine lv_aload_n hx hb dX1_local_2 rfl (lv_at hl 1 rfl) ?_
  refine lv_aload_n hx hb dX1_local_3 rfl (lv_at hl 1 rfl) ?_
  refine va_get (D := D) (ci := 1) (v := .ref (q 2)) (C := RX1) (T := TX1) (N := 8) hx hb hts in_X1 hown hK hP 0 rfl rfl 1 (by decide) (hts _ q170) (fun _ h9 => h9) rfl dX1_local_4 ?_
  refine lv_iconst (v := nI 0) hx hb dX1_local_7 (by decide +kernel) ?_
  refine tw_iald hx hb hK hP 2 1 rfl rfl (by omega) (by decide) dX1_local_8 ?_
  refine lv_aload_n hx hb dX1_local_9 rfl (lv_at hl 1 rfl) ?_
  refine va_get (D := D) (ci := 1) (v := .ref (q 2)) (C := RX1) (T := TX1) (N := 8) hx hb hts in_X1 hown hK hP 0 rfl rfl 1 (by decide) (hts _ q170) (fun _ h9 => h9) rfl dX1_local_10 ?_
  refine lv_iconst (v := nI 1) hx hb dX1_local_13 (by decide +kernel) ?_
  refine tw_iald hx hb hK hP 2 1 rfl rfl (by omega) (by decide) dX1_local_14 ?_
  refine lv_iconst (v := nI 1) hx hb dX1_local_15 (by decide +kernel) ?_
  refine tw_callv (n := 3) (rest := []) (wr := []) (w' := (mw q d lt cn ge gu op le ((m_wrk lt ge gu op le 1 (cn 0) (cn 1) ((cn 0) + 1) (sc, ct)).1) ((m_wrk lt ge gu op le 1 (cn 0) (cn 1) ((cn 0) + 1) (sc, ct)).2))) (kX1_work l D q d lt cn ge gu op le sc ct (cn 0) (cn 1) 1 (by omega) (by omega) (by omega)) S (lw_V q210 q212 qs12 q21 q213) (by decide +kernel) ⟨Nat.le_of_ble_eq_true rfl, Nat.le_of_ble_eq_true rfl⟩ hK hP hD hS hA [0, 1, 2, 3, 4] [] [0, 1, 2, 3] rfl rfl (by decide) (by decide) (fun i h => absurd h List.not_mem_nil) rfl (ci := 1) rfl (q0 := 0) rfl rfl rfl hl.1 (Nat.le_of_ble_eq_true rfl) dX1_local_16 ⟨Nat.zero_le _, Nat.zero_le _⟩ (fun H locs hP hD hS => ?_)
  have hP : va_P D vwCl (mw q d lt cn ge gu op le ((m_wrk lt ge gu op le 1 (cn 0) (cn 1) ((cn 0) + 1) (sc, ct)).1) ((m_wrk lt ge gu op le 1 (cn 0) (cn 1) ((cn 0) + 1) (sc, ct)).2)) H := hP
  have hD : va_D A (mw q d lt cn ge gu op le ((m_wrk lt ge gu op le 1 (cn 0) (cn 1) ((cn 0) + 1) (sc, ct)).1) ((m_wrk lt ge gu op le 1 (cn 0) (cn 1) ((cn 0) + 1) (sc, ct)).2)) := hD
  refine lv_iconst (v := nI 0) hx hb dX1_local_19 (by decide +kernel) ?_
  refine lv_istore_n (lv' := [(2, .int (nI 0)), (1, .int (nI 0)), (0, .ref (q 0))]) hx hb dX1_local_20 rfl hl (by decide) rfl (fun ls hl => ?_)
  exact loop (cn 0 + 2) 0 (by omega) (by omega) _ _ _ hP hD hS (lv_sub hl [0, 1, 2] rfl)
set_option maxHeartbeats 4000000 in
set_option maxRecDepth 100000 in
theorem kX1_fitted  (h1 : cn 0 ≤ 10) (h2 : cn 1 ≤ 10) : Ci l yX1_fitted cX1_fitted 3 .int 3 77 D vwCl (mt d) [.ref (q 0)] (mw q d lt cn ge gu op le sc ct) (al_mx (fun y => (m_wrk lt ge gu op le 2 (cn 0) (cn 1) (cn 0 + 1) (sc, ct)).1 (y * 3)) ((m_wrk lt ge gu op le 2 (cn 0) (cn 1) (cn 0 + 1) (sc, ct)).1 0) (cn 1 + 1)) (mw q d lt cn ge gu op le ((m_wrk lt ge gu op le 2 (cn 0) (cn 1) (cn 0 + 1) (sc, ct)).1) ((m_wrk lt ge gu op le 2 (cn 0) (cn 1) (cn 0 + 1) (sc, ct)).2)) := by
  refine Ci.of (by decide +kernel) (Nat.le_of_ble_eq_true rfl) ?_
  intro p e s m below meth c A ls hx hb hr hlocks hml hown hts hK hP hD hS hA hl
  have hown : s.vm.findClass RX1 = some m.cls := hown
  have S : CallFix p m c cX1_fitted 3 s ([.ref (q 0)] : List Value).toArray lw_all RX1 := ⟨hx, hb, hml, hown, hts⟩
  have hl : lv_has ls 3 [(0, .ref (q 0))] := hl
  have loop : ∀ (n j : Nat), j ≤ cn 1 + 1 → cn 1 + 2 ≤ j + n → ∀ (H : Heap) (locs : List Loc) (ls : Array Slot), va_P D vwCl (mw q d lt cn ge gu op le ((m_wrk lt ge gu op le 2 (cn 0) (cn 1) (cn 0 + 1) (sc, ct)).1) ((m_wrk lt ge gu op le 2 (cn 0) (cn 1) (cn 0 + 1) (sc, ct)).2)) H → va_D A (mw q d lt cn ge gu op le ((m_wrk lt ge gu op le 2 (cn 0) (cn 1) (cn 0 + 1) (sc, ct)).1) ((m_wrk lt ge gu op le 2 (cn 0) (cn 1) (cn 0 + 1) (sc, ct)).2)) → va_S A s.heap H locs → lv_has ls 3 [(2, .int (nI j)), (1, .int (al_mx (fun y => (m_wrk lt ge gu op le 2 (cn 0) (cn 1) (cn 0 + 1) (sc, ct)).1 (y * 3)) ((m_wrk lt ge gu op le 2 (cn 0) (cn 1) (cn 0 + 1) (sc, ct)).1 0) j)), (0, .ref (q 0))] → W p l e (tw_rm 3 77) s m ([.ref (q 0)] : List Value).toArray below meth c H locs 0 0 (MQ below (tw_Qi D vwCl (mt d) (al_mx (fun y => (m_wrk lt ge gu op le 2 (cn 0) (cn 1) (cn 0 + 1) (sc, ct)).1 (y * 3)) ((m_wrk lt ge gu op le 2 (cn 0) (cn 1) (cn 0 + 1) (sc, ct)).1 0) (cn 1 + 1)) (mw q d lt cn ge gu op le ((m_wrk lt ge gu op le 2 (cn 0) (cn 1) (cn 0 + 1) (sc, ct)).1) ((m_wrk lt ge gu op le 2 (cn 0) (cn 1) (cn 0 + 1) (sc, ct)).2)) A) ([.ref (q 0)] : List Value).toArray s 0 0 A) (F0 m 26 ls []) := by
    intro n
    induction n with
    | zero => intro k hk hn; exact absurd hn (by omega)
    | succ n ih =>
      intro j hj hn H locs ls hP hD hS hl
      refine lv_iload_n hx hb dX1_fitted_26 rfl (lv_at hl 0 rfl) ?_
      refine lv_aload_n hx hb dX1_fitted_27 rfl (lv_at hl 2 rfl) ?_
      refine va_get (D := D) (ci := 1) (v := .ref (q 2)) (C := RX1) (T := TX1) (N := 8) hx hb hts in_X1 hown hK hP 0 rfl rfl 1 (by decide) (hts _ q170) (fun _ h9 => h9) rfl dX1_fitted_28 ?_
      refine lv_iconst (v := nI 1) hx hb dX1_fitted_31 (by decide +kernel) ?_
      refine tw_iald hx hb hK hP 2 1 rfl rfl (by omega) (by decide) dX1_fitted_32 ?_
      refine tw_icmp_gt (tgt := 63) hx hb (by omega) (by omega) dX1_fitted_33 (by decide) (fun c_33 => ?_) (fun c_33 => ?_)
      · 
        have hj3 : j = cn 1 + 1 := by omega
        subst hj3
        refine lv_iload_n hx hb dX1_fitted_63 rfl (lv_at hl 1 rfl) ?_
        exact tw_iret hx hb hr hlocks hK hP hD hS (rfl) dX1_fitted_64
      · 
        refine lv_aload_n hx hb dX1_fitted_36 rfl (lv_at hl 2 rfl) ?_
        refine va_get (D := D) (ci := 1) (v := .ref (q 3)) (C := RX1) (T := TX1) (N := 8) hx hb hts in_X1 hown hK hP 0 rfl rfl 6 (by decide) (hts _ q175) (fun _ h9 => h9) rfl dX1_fitted_37 ?_
        refine lv_iload_n hx hb dX1_fitted_40 rfl (lv_at hl 0 rfl) ?_
        refine lv_iconst (v := nI 3) hx hb dX1_fitted_41 (by decide +kernel) ?_
        refine tw_imul hx hb dX1_fitted_42 ?_
        refine tw_iald hx hb hK hP 3 2 rfl rfl (by omega) (by decide) dX1_fitted_43 ?_
        refine lv_iload_n hx hb dX1_fitted_44 rfl (lv_at hl 1 rfl) ?_
        refine lv_icmp_le (tgt := 57) hx hb dX1_fitted_45 (by decide) (fun c_45 => ?_) (fun c_45 => ?_)
        · 
          refine tw_iinc (lv' := [(2, .int (nI (j + 1))), (1, .int (al_mx (fun y => (m_wrk lt ge gu op le 2 (cn 0) (cn 1) (cn 0 + 1) (sc, ct)).1 (y * 3)) ((m_wrk lt ge gu op le 2 (cn 0) (cn 1) (cn 0 + 1) (sc, ct)).1 0) j)), (0, .ref (q 0))]) hx hb dX1_fitted_57 hl (k := 0) rfl (by decide) rfl (fun ls hl => ?_)
          refine lv_goto (tgt := 26) hx hb dX1_fitted_60 (by decide) ?_
          have hh : al_mx (fun y => (m_wrk lt ge gu op le 2 (cn 0) (cn 1) (cn 0 + 1) (sc, ct)).1 (y * 3)) ((m_wrk lt ge gu op le 2 (cn 0) (cn 1) (cn 0 + 1) (sc, ct)).1 0) (j + 1) = al_mx (fun y => (m_wrk lt ge gu op le 2 (cn 0) (cn 1) (cn 0 + 1) (sc, ct)).1 (y * 3)) ((m_wrk lt ge gu op le 2 (cn 0) (cn 1) (cn 0 + 1) (sc, ct)).1 0) j := if_pos c_45
          exact ih (j + 1) (by omega) (by omega) _ _ _ hP hD hS (by rw [hh]; exact (lv_sub hl [0, 1, 2] rfl))
        · 
          refine lv_aload_n hx hb dX1_fitted_48 rfl (lv_at hl 2 rfl) ?_
          refine va_get (D := D) (ci := 1) (v := .ref (q 3)) (C := RX1) (T := TX1) (N := 8) hx hb hts in_X1 hown hK hP 0 rfl rfl 6 (by decide) (hts _ q175) (fun _ h9 => h9) rfl dX1_fitted_49 ?_
          refine lv_iload_n hx hb dX1_fitted_52 rfl (lv_at hl 0 rfl) ?_
          refine lv_iconst (v := nI 3) hx hb dX1_fitted_53 (by decide +kernel) ?_
          refine tw_imul hx hb dX1_fitted_54 ?_
          refine tw_iald hx hb hK hP 3 2 rfl rfl (by omega) (by decide) dX1_fitted_55 ?_
          refine lv_istore_n (lv' := [(1, .int (((m_wrk lt ge gu op le 2 (cn 0) (cn 1) (cn 0 + 1) (sc, ct)).1) (j * 3))), (2, .int (nI j)), (0, .ref (q 0))]) hx hb dX1_fitted_56 rfl hl (by decide) rfl (fun ls hl => ?_)
          refine tw_iinc (lv' := [(2, .int (nI (j + 1))), (1, .int (((m_wrk lt ge gu op le 2 (cn 0) (cn 1) (cn 0 + 1) (sc, ct)).1) (j * 3))), (0, .ref (q 0))]) hx hb dX1_fitted_57 hl (k := 1) rfl (by decide) rfl (fun ls hl => ?_)
          refine lv_goto (tgt := 26) hx hb dX1_fitted_60 (by decide) ?_
          have hh : al_mx (fun y => (m_wrk lt ge gu op le 2 (cn 0) (cn 1) (cn 0 + 1) (sc, ct)).1 (y * 3)) ((m_wrk lt ge gu op le 2 (cn 0) (cn 1) (cn 0 + 1) (sc, ct)).1 0) (j + 1) = (m_wrk lt ge gu op le 2 (cn 0) (cn 1) (cn 0 + 1) (sc, ct)).1 (j * 3) := if_neg c_45
          exact ih (j + 1) (by omega) (by omega) _ _ _ hP hD hS (by rw [hh]; exact (lv_sub hl [0, 1, 2] rfl))
  refine lv_aload_n hx hb dX1_fitted_0 rfl (lv_at hl 0 rfl) ?_
  refine lv_aload_n hx hb dX1_fitted_1 rfl (lv_at hl 0 rfl) ?_
  refine va_get (D := D) (ci := 1) (v := .ref (q 2)) (C := RX1) (T := TX1) (N := 8) hx hb hts in_X1 hown hK hP 0 rfl rfl 1 (by decide) (hts _ q170) (fun _ h9 => h9) rfl dX1_fitted_2 ?_
  refine lv_iconst (v := nI 0) hx hb dX1_fitted_5 (by decide +kernel) ?_
  refine tw_iald hx hb hK hP 2 1 rfl rfl (by omega) (by decide) dX1_fitted_6 ?_
  refine lv_aload_n hx hb dX1_fitted_7 rfl (lv_at hl 0 rfl) ?_
  refine va_get (D := D) (ci := 1) (v := .ref (q 2)) (C := RX1) (T := TX1) (N := 8) hx hb hts in_X1 hown hK hP 0 rfl rfl 1 (by decide) (hts _ q170) (fun _ h9 => h9) rfl dX1_fitted_8 ?_
  refine lv_iconst (v := nI 1) hx hb dX1_fitted_11 (by decide +kernel) ?_
  refine tw_iald hx hb hK hP 2 1 rfl rfl (by omega) (by decide) dX1_fitted_12 ?_
  refine lv_iconst (v := nI 2) hx hb dX1_fitted_13 (by decide +kernel) ?_
  refine tw_callv (n := 3) (rest := []) (wr := []) (w' := (mw q d lt cn ge gu op le ((m_wrk lt ge gu op le 2 (cn 0) (cn 1) ((cn 0) + 1) (sc, ct)).1) ((m_wrk lt ge gu op le 2 (cn 0) (cn 1) ((cn 0) + 1) (sc, ct)).2))) (kX1_work l D q d lt cn ge gu op le sc ct (cn 0) (cn 1) 2 (by omega) (by omega) (by omega)) S (lw_V q210 q212 qs12 q21 q213) (by decide +kernel) ⟨Nat.le_of_ble_eq_true rfl, Nat.le_of_ble_eq_true rfl⟩ hK hP hD hS hA [0, 1, 2, 3, 4] [] [0, 1, 2, 3] rfl rfl (by decide) (by decide) (fun i h => absurd h List.not_mem_nil) rfl (ci := 1) rfl (q0 := 0) rfl rfl rfl hl.1 (Nat.le_of_ble_eq_true rfl) dX1_fitted_14 ⟨Nat.zero_le _, Nat.zero_le _⟩ (fun H locs hP hD hS => ?_)
  have hP : va_P D vwCl (mw q d lt cn ge gu op le ((m_wrk lt ge gu op le 2 (cn 0) (cn 1) ((cn 0) + 1) (sc, ct)).1) ((m_wrk lt ge gu op le 2 (cn 0) (cn 1) ((cn 0) + 1) (sc, ct)).2)) H := hP
  have hD : va_D A (mw q d lt cn ge gu op le ((m_wrk lt ge gu op le 2 (cn 0) (cn 1) ((cn 0) + 1) (sc, ct)).1) ((m_wrk lt ge gu op le 2 (cn 0) (cn 1) ((cn 0) + 1) (sc, ct)).2)) := hD
  refine lv_aload_n hx hb dX1_fitted_17 rfl (lv_at hl 0 rfl) ?_
  refine va_get (D := D) (ci := 1) (v := .ref (q 3)) (C := RX1) (T := TX1) (N := 8) hx hb hts in_X1 hown hK hP 0 rfl rfl 6 (by decide) (hts _ q175) (fun _ h9 => h9) rfl dX1_fitted_18 ?_
  refine lv_iconst (v := nI 0) hx hb dX1_fitted_21 (by decide +kernel) ?_
  refine tw_iald hx hb hK hP 3 2 rfl rfl (by omega) (by decide) dX1_fitted_22 ?_
  refine lv_istore_n (lv' := [(1, .int (((m_wrk lt ge gu op le 2 (cn 0) (cn 1) ((cn 0) + 1) (sc, ct)).1) 0)), (0, .ref (q 0))]) hx hb dX1_fitted_23 rfl hl (by decide) rfl (fun ls hl => ?_)
  refine lv_iconst (v := nI 0) hx hb dX1_fitted_24 (by decide +kernel) ?_
  refine lv_istore_n (lv' := [(2, .int (nI 0)), (1, .int (((m_wrk lt ge gu op le 2 (cn 0) (cn 1) ((cn 0) + 1) (sc, ct)).1) 0)), (0, .ref (q 0))]) hx hb dX1_fitted_25 rfl hl (by decide) rfl (fun ls hl => ?_)
  exact loop (cn 1 + 2) 0 (by omega) (by omega) _ _ _ hP hD hS (lv_sub hl [0, 1, 2] rfl)
set_option maxHeartbeats 4000000 in
set_option maxRecDepth 100000 in
theorem kX1_overlap  (h1 : cn 0 ≤ 10) (h2 : cn 1 ≤ 10) : Ci l yX1_overlap cX1_overlap 3 .int 3 77 D vwCl (mt d) [.ref (q 0)] (mw q d lt cn ge gu op le sc ct) (al_mx (fun y => (m_wrk lt ge gu op le 2 (cn 0) (cn 1) (cn 0 + 1) (sc, ct)).1 (y * 33)) ((m_wrk lt ge gu op le 2 (cn 0) (cn 1) (cn 0 + 1) (sc, ct)).1 0) (cn 0 + 1)) (mw q d lt cn ge gu op le ((m_wrk lt ge gu op le 2 (cn 0) (cn 1) (cn 0 + 1) (sc, ct)).1) ((m_wrk lt ge gu op le 2 (cn 0) (cn 1) (cn 0 + 1) (sc, ct)).2)) := by
  refine Ci.of (by decide +kernel) (Nat.le_of_ble_eq_true rfl) ?_
  intro p e s m below meth c A ls hx hb hr hlocks hml hown hts hK hP hD hS hA hl
  have hown : s.vm.findClass RX1 = some m.cls := hown
  have S : CallFix p m c cX1_overlap 3 s ([.ref (q 0)] : List Value).toArray lw_all RX1 := ⟨hx, hb, hml, hown, hts⟩
  have hl : lv_has ls 3 [(0, .ref (q 0))] := hl
  have loop : ∀ (n j : Nat), j ≤ cn 0 + 1 → cn 0 + 2 ≤ j + n → ∀ (H : Heap) (locs : List Loc) (ls : Array Slot), va_P D vwCl (mw q d lt cn ge gu op le ((m_wrk lt ge gu op le 2 (cn 0) (cn 1) (cn 0 + 1) (sc, ct)).1) ((m_wrk lt ge gu op le 2 (cn 0) (cn 1) (cn 0 + 1) (sc, ct)).2)) H → va_D A (mw q d lt cn ge gu op le ((m_wrk lt ge gu op le 2 (cn 0) (cn 1) (cn 0 + 1) (sc, ct)).1) ((m_wrk lt ge gu op le 2 (cn 0) (cn 1) (cn 0 + 1) (sc, ct)).2)) → va_S A s.heap H locs → lv_has ls 3 [(2, .int (nI j)), (1, .int (al_mx (fun y => (m_wrk lt ge gu op le 2 (cn 0) (cn 1) (cn 0 + 1) (sc, ct)).1 (y * 33)) ((m_wrk lt ge gu op le 2 (cn 0) (cn 1) (cn 0 + 1) (sc, ct)).1 0) j)), (0, .ref (q 0))] → W p l e (tw_rm 3 77) s m ([.ref (q 0)] : List Value).toArray below meth c H locs 0 0 (MQ below (tw_Qi D vwCl (mt d) (al_mx (fun y => (m_wrk lt ge gu op le 2 (cn 0) (cn 1) (cn 0 + 1) (sc, ct)).1 (y * 33)) ((m_wrk lt ge gu op le 2 (cn 0) (cn 1) (cn 0 + 1) (sc, ct)).1 0) (cn 0 + 1)) (mw q d lt cn ge gu op le ((m_wrk lt ge gu op le 2 (cn 0) (cn 1) (cn 0 + 1) (sc, ct)).1) ((m_wrk lt ge gu op le 2 (cn 0) (cn 1) (cn 0 + 1) (sc, ct)).2)) A) ([.ref (q 0)] : List Value).toArray s 0 0 A) (F0 m 26 ls []) := by
    intro n
    induction n with
    | zero => intro k hk hn; exact absurd hn (by omega)
    | succ n ih =>
      intro j hj hn H locs ls hP hD hS hl
      refine lv_iload_n hx hb dX1_overlap_26 rfl (lv_at hl 0 rfl) ?_
      refine lv_aload_n hx hb dX1_overlap_27 rfl (lv_at hl 2 rfl) ?_
      refine va_get (D := D) (ci := 1) (v := .ref (q 2)) (C := RX1) (T := TX1) (N := 8) hx hb hts in_X1 hown hK hP 0 rfl rfl 1 (by decide) (hts _ q170) (fun _ h9 => h9) rfl dX1_overlap_28 ?_
      refine lv_iconst (v := nI 0) hx hb dX1_overlap_31 (by decide +kernel) ?_
      refine tw_iald hx hb hK hP 2 1 rfl rfl (by omega) (by decide) dX1_overlap_32 ?_
      refine tw_icmp_gt (tgt := 65) hx hb (by omega) (by omega) dX1_overlap_33 (by decide) (fun c_33 => ?_) (fun c_33 => ?_)
      · 
        have hj3 : j = cn 0 + 1 := by omega
        subst hj3
        refine lv_iload_n hx hb dX1_overlap_65 rfl (lv_at hl 1 rfl) ?_
        exact tw_iret hx hb hr hlocks hK hP hD hS (rfl) dX1_overlap_66
      · 
        refine lv_aload_n hx hb dX1_overlap_36 rfl (lv_at hl 2 rfl) ?_
        refine va_get (D := D) (ci := 1) (v := .ref (q 3)) (C := RX1) (T := TX1) (N := 8) hx hb hts in_X1 hown hK hP 0 rfl rfl 6 (by decide) (hts _ q175) (fun _ h9 => h9) rfl dX1_overlap_37 ?_
        refine lv_iload_n hx hb dX1_overlap_40 rfl (lv_at hl 0 rfl) ?_
        refine lv_bipush (v := nI 33) hx hb dX1_overlap_41 (by decide +kernel) ?_
        refine tw_imul hx hb dX1_overlap_43 ?_
        refine tw_iald hx hb hK hP 3 2 rfl rfl (by omega) (by decide) dX1_overlap_44 ?_
        refine lv_iload_n hx hb dX1_overlap_45 rfl (lv_at hl 1 rfl) ?_
        refine lv_icmp_le (tgt := 59) hx hb dX1_overlap_46 (by decide) (fun c_46 => ?_) (fun c_46 => ?_)
        · 
          refine tw_iinc (lv' := [(2, .int (nI (j + 1))), (1, .int (al_mx (fun y => (m_wrk lt ge gu op le 2 (cn 0) (cn 1) (cn 0 + 1) (sc, ct)).1 (y * 33)) ((m_wrk lt ge gu op le 2 (cn 0) (cn 1) (cn 0 + 1) (sc, ct)).1 0) j)), (0, .ref (q 0))]) hx hb dX1_overlap_59 hl (k := 0) rfl (by decide) rfl (fun ls hl => ?_)
          refine lv_goto (tgt := 26) hx hb dX1_overlap_62 (by decide) ?_
          have hh : al_mx (fun y => (m_wrk lt ge gu op le 2 (cn 0) (cn 1) (cn 0 + 1) (sc, ct)).1 (y * 33)) ((m_wrk lt ge gu op le 2 (cn 0) (cn 1) (cn 0 + 1) (sc, ct)).1 0) (j + 1) = al_mx (fun y => (m_wrk lt ge gu op le 2 (cn 0) (cn 1) (cn 0 + 1) (sc, ct)).1 (y * 33)) ((m_wrk lt ge gu op le 2 (cn 0) (cn 1) (cn 0 + 1) (sc, ct)).1 0) j := if_pos c_46
          exact ih (j + 1) (by omega) (by omega) _ _ _ hP hD hS (by rw [hh]; exact (lv_sub hl [0, 1, 2] rfl))
        · 
          refine lv_aload_n hx hb dX1_overlap_49 rfl (lv_at hl 2 rfl) ?_
          refine va_get (D := D) (ci := 1) (v := .ref (q 3)) (C := RX1) (T := TX1) (N := 8) hx hb hts in_X1 hown hK hP 0 rfl rfl 6 (by decide) (hts _ q175) (fun _ h9 => h9) rfl dX1_overlap_50 ?_
          refine lv_iload_n hx hb dX1_overlap_53 rfl (lv_at hl 0 rfl) ?_
          refine lv_bipush (v := nI 33) hx hb dX1_overlap_54 (by decide +kernel) ?_
          refine tw_imul hx hb dX1_overlap_56 ?_
          refine tw_iald hx hb hK hP 3 2 rfl rfl (by omega) (by decide) dX1_overlap_57 ?_
          refine lv_istore_n (lv' := [(1, .int (((m_wrk lt ge gu op le 2 (cn 0) (cn 1) (cn 0 + 1) (sc, ct)).1) (j * 33))), (2, .int (nI j)), (0, .ref (q 0))]) hx hb dX1_overlap_58 rfl hl (by decide) rfl (fun ls hl => ?_)
          refine tw_iinc (lv' := [(2, .int (nI (j + 1))), (1, .int (((m_wrk lt ge gu op le 2 (cn 0) (cn 1) (cn 0 + 1) (sc, ct)).1) (j * 33))), (0, .ref (q 0))]) hx hb dX1_overlap_59 hl (k := 1) rfl (by decide) rfl (fun ls hl => ?_)
          refine lv_goto (tgt := 26) hx hb dX1_overlap_62 (by decide) ?_
          have hh : al_mx (fun y => (m_wrk lt ge gu op le 2 (cn 0) (cn 1) (cn 0 + 1) (sc, ct)).1 (y * 33)) ((m_wrk lt ge gu op le 2 (cn 0) (cn 1) (cn 0 + 1) (sc, ct)).1 0) (j + 1) = (m_wrk lt ge gu op le 2 (cn 0) (cn 1) (cn 0 + 1) (sc, ct)).1 (j * 33) := if_neg c_46
          exact ih (j + 1) (by omega) (by omega) _ _ _ hP hD hS (by rw [hh]; exact (lv_sub hl [0, 1, 2] rfl))
  refine lv_aload_n hx hb dX1_overlap_0 rfl (lv_at hl 0 rfl) ?_
  refine lv_aload_n hx hb dX1_overlap_1 rfl (lv_at hl 0 rfl) ?_
  refine va_get (D := D) (ci := 1) (v := .ref (q 2)) (C := RX1) (T := TX1) (N := 8) hx hb hts in_X1 hown hK hP 0 rfl rfl 1 (by decide) (hts _ q170) (fun _ h9 => h9) rfl dX1_overlap_2 ?_
  refine lv_iconst (v := nI 0) hx hb dX1_overlap_5 (by decide +kernel) ?_
  refine tw_iald hx hb hK hP 2 1 rfl rfl (by omega) (by decide) dX1_overlap_6 ?_
  refine lv_aload_n hx hb dX1_overlap_7 rfl (lv_at hl 0 rfl) ?_
  refine va_get (D := D) (ci := 1) (v := .ref (q 2)) (C := RX1) (T := TX1) (N := 8) hx hb hts in_X1 hown hK hP 0 rfl rfl 1 (by decide) (hts _ q170) (fun _ h9 => h9) rfl dX1_overlap_8 ?_
  refine lv_iconst (v := nI 1) hx hb dX1_overlap_11 (by decide +kernel) ?_
  refine tw_iald hx hb hK hP 2 1 rfl rfl (by omega) (by decide) dX1_overlap_12 ?_
  refine lv_iconst (v := nI 2) hx hb dX1_overlap_13 (by decide +kernel) ?_
  refine tw_callv (n := 3) (rest := []) (wr := []) (w' := (mw q d lt cn ge gu op le ((m_wrk lt ge gu op le 2 (cn 0) (cn 1) ((cn 0) + 1) (sc, ct)).1) ((m_wrk lt ge gu op le 2 (cn 0) (cn 1) ((cn 0) + 1) (sc, ct)).2))) (kX1_work l D q d lt cn ge gu op le sc ct (cn 0) (cn 1) 2 (by omega) (by omega) (by omega)) S (lw_V q210 q212 qs12 q21 q213) (by decide +kernel) ⟨Nat.le_of_ble_eq_true rfl, Nat.le_of_ble_eq_true rfl⟩ hK hP hD hS hA [0, 1, 2, 3, 4] [] [0, 1, 2, 3] rfl rfl (by decide) (by decide) (fun i h => absurd h List.not_mem_nil) rfl (ci := 1) rfl (q0 := 0) rfl rfl rfl hl.1 (Nat.le_of_ble_eq_true rfl) dX1_overlap_14 ⟨Nat.zero_le _, Nat.zero_le _⟩ (fun H locs hP hD hS => ?_)
  have hP : va_P D vwCl (mw q d lt cn ge gu op le ((m_wrk lt ge gu op le 2 (cn 0) (cn 1) ((cn 0) + 1) (sc, ct)).1) ((m_wrk lt ge gu op le 2 (cn 0) (cn 1) ((cn 0) + 1) (sc, ct)).2)) H := hP
  have hD : va_D A (mw q d lt cn ge gu op le ((m_wrk lt ge gu op le 2 (cn 0) (cn 1) ((cn 0) + 1) (sc, ct)).1) ((m_wrk lt ge gu op le 2 (cn 0) (cn 1) ((cn 0) + 1) (sc, ct)).2)) := hD
  refine lv_aload_n hx hb dX1_overlap_17 rfl (lv_at hl 0 rfl) ?_
  refine va_get (D := D) (ci := 1) (v := .ref (q 3)) (C := RX1) (T := TX1) (N := 8) hx hb hts in_X1 hown hK hP 0 rfl rfl 6 (by decide) (hts _ q175) (fun _ h9 => h9) rfl dX1_overlap_18 ?_
  refine lv_iconst (v := nI 0) hx hb dX1_overlap_21 (by decide +kernel) ?_
  refine tw_iald hx hb hK hP 3 2 rfl rfl (by omega) (by decide) dX1_overlap_22 ?_
  refine lv_istore_n (lv' := [(1, .int (((m_wrk lt ge gu op le 2 (cn 0) (cn 1) ((cn 0) + 1) (sc, ct)).1) 0)), (0, .ref (q 0))]) hx hb dX1_overlap_23 rfl hl (by decide) rfl (fun ls hl => ?_)
  refine lv_iconst (v := nI 0) hx hb dX1_overlap_24 (by decide +kernel) ?_
  refine lv_istore_n (lv' := [(2, .int (nI 0)), (1, .int (((m_wrk lt ge gu op le 2 (cn 0) (cn 1) ((cn 0) + 1) (sc, ct)).1) 0)), (0, .ref (q 0))]) hx hb dX1_overlap_25 rfl hl (by decide) rfl (fun ls hl => ?_)
  exact loop (cn 0 + 2) 0 (by omega) (by omega) _ _ _ hP hD hS (lv_sub hl [0, 1, 2] rfl)
set_option maxHeartbeats 4000000 in
set_option maxRecDepth 100000 in
theorem kX1_paired_out (a : Int32) (b : Int32) (h1 : cn 0 ≤ 10) (h2 : cn 1 ≤ 10) (h3 : a < 0 ∨ nI (cn 0) ≤ a ∨ b < 0 ∨ nI (cn 1) ≤ b) : Ci l yX1_paired cX1_paired 5 .boolean 4 97 D vwCl (mt d) [.ref (q 0), .int a, .int b] (mw q d lt cn ge gu op le sc ct) (nI 0) (mw q d lt cn ge gu op le sc ct) := by
  refine Ci.of (by decide +kernel) (Nat.le_of_ble_eq_true rfl) ?_
  intro p e s m below meth c A ls hx hb hr hlocks hml hown hts hK hP hD hS hA hl
  have hown : s.vm.findClass RX1 = some m.cls := hown
  have S : CallFix p m c cX1_paired 5 s ([.ref (q 0), .int a, .int b] : List Value).toArray lw_all RX1 := ⟨hx, hb, hml, hown, hts⟩
  have hl : lv_has ls 5 [(0, .ref (q 0)), (1, .int a), (2, .int b)] := hl
  refine lv_iload_n hx hb dX1_paired_0 rfl (lv_at hl 1 rfl) ?_
  refine lv_if_lt (tgt := 28) hx hb dX1_paired_1 (by decide) (fun c_1 => ?_) (fun c_1 => ?_)
  · 
    refine lv_iconst (v := nI 0) hx hb dX1_paired_28 (by decide +kernel) ?_
    exact tw_zret hx hb hr hlocks (by decide +kernel) hK hP hD hS (rfl) dX1_paired_29
  · 
    refine lv_iload_n hx hb dX1_paired_4 rfl (lv_at hl 1 rfl) ?_
    refine lv_aload_n hx hb dX1_paired_5 rfl (lv_at hl 0 rfl) ?_
    refine va_get (D := D) (ci := 1) (v := .ref (q 2)) (C := RX1) (T := TX1) (N := 8) hx hb hts in_X1 hown hK hP 0 rfl rfl 1 (by decide) (hts _ q170) (fun _ h9 => h9) rfl dX1_paired_6 ?_
    refine lv_iconst (v := nI 0) hx hb dX1_paired_9 (by decide +kernel) ?_
    refine tw_iald hx hb hK hP 2 1 rfl rfl (by omega) (by decide) dX1_paired_10 ?_
    refine lv_icmp_ge (tgt := 28) hx hb dX1_paired_11 (by decide) (fun c_11 => ?_) (fun c_11 => ?_)
    · 
      refine lv_iconst (v := nI 0) hx hb dX1_paired_28 (by decide +kernel) ?_
      exact tw_zret hx hb hr hlocks (by decide +kernel) hK hP hD hS (rfl) dX1_paired_29
    · 
      refine lv_iload_n hx hb dX1_paired_14 rfl (lv_at hl 2 rfl) ?_
      refine lv_if_lt (tgt := 28) hx hb dX1_paired_15 (by decide) (fun c_15 => ?_) (fun c_15 => ?_)
      · 
        refine lv_iconst (v := nI 0) hx hb dX1_paired_28 (by decide +kernel) ?_
        exact tw_zret hx hb hr hlocks (by decide +kernel) hK hP hD hS (rfl) dX1_paired_29
      · 
        refine lv_iload_n hx hb dX1_paired_18 rfl (lv_at hl 2 rfl) ?_
        refine lv_aload_n hx hb dX1_paired_19 rfl (lv_at hl 0 rfl) ?_
        refine va_get (D := D) (ci := 1) (v := .ref (q 2)) (C := RX1) (T := TX1) (N := 8) hx hb hts in_X1 hown hK hP 0 rfl rfl 1 (by decide) (hts _ q170) (fun _ h9 => h9) rfl dX1_paired_20 ?_
        refine lv_iconst (v := nI 1) hx hb dX1_paired_23 (by decide +kernel) ?_
        refine tw_iald hx hb hK hP 2 1 rfl rfl (by omega) (by decide) dX1_paired_24 ?_
        refine lv_icmp_lt (tgt := 30) hx hb dX1_paired_25 (by decide) (fun c_25 => False.elim (by rcases h3 with h9 | h9 | h9 | h9; exact c_1 h9; exact c_11 h9; exact c_15 h9; exact tw_nlt h9 c_25)) (fun c_25 => ?_)
        refine lv_iconst (v := nI 0) hx hb dX1_paired_28 (by decide +kernel) ?_
        exact tw_zret hx hb hr hlocks (by decide +kernel) hK hP hD hS (rfl) dX1_paired_29
set_option maxHeartbeats 4000000 in
set_option maxRecDepth 100000 in
theorem kX1_paired_in (a : Nat) (b : Nat) (h1 : cn 0 ≤ 10) (h2 : cn 1 ≤ 10) (h3 : a < cn 0) (h4 : b < cn 1) : Ci l yX1_paired cX1_paired 5 .boolean 4 97 D vwCl (mt d) [.ref (q 0), .int (nI a), .int (nI b)] (mw q d lt cn ge gu op le sc ct) (if (m_wrk lt ge gu op le 0 a b (a + 1) (sc, ct)).1 0 + x_gain lt ge gu a b + (m_wrk lt ge gu op le 0 (cn 0) (cn 1) (cn 0 + 1) ((m_wrk lt ge gu op le 0 a b (a + 1) (sc, ct)).1, (m_wrk lt ge gu op le 0 a b (a + 1) (sc, ct)).2)).1 (((a + 1) * 11 + b + 1) * 3) = (m_wrk lt ge gu op le 0 (cn 0) (cn 1) (cn 0 + 1) ((m_wrk lt ge gu op le 0 a b (a + 1) (sc, ct)).1, (m_wrk lt ge gu op le 0 a b (a + 1) (sc, ct)).2)).1 0 then nI 1 else nI 0) (mw q d lt cn ge gu op le ((m_wrk lt ge gu op le 0 (cn 0) (cn 1) (cn 0 + 1) ((m_wrk lt ge gu op le 0 a b (a + 1) (sc, ct)).1, (m_wrk lt ge gu op le 0 a b (a + 1) (sc, ct)).2)).1) ((m_wrk lt ge gu op le 0 (cn 0) (cn 1) (cn 0 + 1) ((m_wrk lt ge gu op le 0 a b (a + 1) (sc, ct)).1, (m_wrk lt ge gu op le 0 a b (a + 1) (sc, ct)).2)).2)) := by
  refine Ci.of (by decide +kernel) (Nat.le_of_ble_eq_true rfl) ?_
  intro p e s m below meth c A ls hx hb hr hlocks hml hown hts hK hP hD hS hA hl
  have hown : s.vm.findClass RX1 = some m.cls := hown
  have S : CallFix p m c cX1_paired 5 s ([.ref (q 0), .int (nI a), .int (nI b)] : List Value).toArray lw_all RX1 := ⟨hx, hb, hml, hown, hts⟩
  have hl : lv_has ls 5 [(0, .ref (q 0)), (1, .int (nI a)), (2, .int (nI b))] := hl
  refine lv_iload_n hx hb dX1_paired_0 rfl (lv_at hl 1 rfl) ?_
  refine tw_if_lt (tgt := 28) hx hb (by omega) dX1_paired_1 (by decide) ?_
  refine lv_iload_n hx hb dX1_paired_4 rfl (lv_at hl 1 rfl) ?_
  refine lv_aload_n hx hb dX1_paired_5 rfl (lv_at hl 0 rfl) ?_
  refine va_get (D := D) (ci := 1) (v := .ref (q 2)) (C := RX1) (T := TX1) (N := 8) hx hb hts in_X1 hown hK hP 0 rfl rfl 1 (by decide) (hts _ q170) (fun _ h9 => h9) rfl dX1_paired_6 ?_
  refine lv_iconst (v := nI 0) hx hb dX1_paired_9 (by decide +kernel) ?_
  refine tw_iald hx hb hK hP 2 1 rfl rfl (by omega) (by decide) dX1_paired_10 ?_
  refine tw_icmp_ge (tgt := 28) hx hb (by omega) (by omega) dX1_paired_11 (by decide) (fun c_11 => False.elim (by omega)) (fun c_11 => ?_)
  refine lv_iload_n hx hb dX1_paired_14 rfl (lv_at hl 2 rfl) ?_
  refine tw_if_lt (tgt := 28) hx hb (by omega) dX1_paired_15 (by decide) ?_
  refine lv_iload_n hx hb dX1_paired_18 rfl (lv_at hl 2 rfl) ?_
  refine lv_aload_n hx hb dX1_paired_19 rfl (lv_at hl 0 rfl) ?_
  refine va_get (D := D) (ci := 1) (v := .ref (q 2)) (C := RX1) (T := TX1) (N := 8) hx hb hts in_X1 hown hK hP 0 rfl rfl 1 (by decide) (hts _ q170) (fun _ h9 => h9) rfl dX1_paired_20 ?_
  refine lv_iconst (v := nI 1) hx hb dX1_paired_23 (by decide +kernel) ?_
  refine tw_iald hx hb hK hP 2 1 rfl rfl (by omega) (by decide) dX1_paired_24 ?_
  refine tw_icmp_lt (tgt := 30) hx hb (by omega) (by omega) dX1_paired_25 (by decide) (fun c_25 => ?_) (fun c_25 => False.elim (by omega))
  refine lv_aload_n hx hb dX1_paired_30 rfl (lv_at hl 0 rfl) ?_
  refine lv_iload_n hx hb dX1_paired_31 rfl (lv_at hl 1 rfl) ?_
  refine lv_iload_n hx hb dX1_paired_32 rfl (lv_at hl 2 rfl) ?_
  refine lv_iconst (v := nI 0) hx hb dX1_paired_33 (by decide +kernel) ?_
  refine tw_callv (n := 3) (rest := []) (wr := []) (w' := (mw q d lt cn ge gu op le ((m_wrk lt ge gu op le 0 a b (a + 1) (sc, ct)).1) ((m_wrk lt ge gu op le 0 a b (a + 1) (sc, ct)).2))) (kX1_work l D q d lt cn ge gu op le sc ct a b 0 (by omega) (by omega) (by omega)) S (lw_V q210 q212 qs12 q21 q213) (by decide +kernel) ⟨Nat.le_of_ble_eq_true rfl, Nat.le_of_ble_eq_true rfl⟩ hK hP hD hS hA [0, 1, 2, 3, 4] [] [0, 1, 2, 3] rfl rfl (by decide) (by decide) (fun i h => absurd h List.not_mem_nil) rfl (ci := 1) rfl (q0 := 0) rfl rfl rfl hl.1 (Nat.le_of_ble_eq_true rfl) dX1_paired_34 ⟨Nat.zero_le _, Nat.zero_le _⟩ (fun H locs hP hD hS => ?_)
  have hP : va_P D vwCl (mw q d lt cn ge gu op le ((m_wrk lt ge gu op le 0 a b (a + 1) (sc, ct)).1) ((m_wrk lt ge gu op le 0 a b (a + 1) (sc, ct)).2)) H := hP
  have hD : va_D A (mw q d lt cn ge gu op le ((m_wrk lt ge gu op le 0 a b (a + 1) (sc, ct)).1) ((m_wrk lt ge gu op le 0 a b (a + 1) (sc, ct)).2)) := hD
  refine lv_aload_n hx hb dX1_paired_37 rfl (lv_at hl 0 rfl) ?_
  refine va_get (D := D) (ci := 1) (v := .ref (q 3)) (C := RX1) (T := TX1) (N := 8) hx hb hts in_X1 hown hK hP 0 rfl rfl 6 (by decide) (hts _ q175) (fun _ h9 => h9) rfl dX1_paired_38 ?_
  refine lv_iconst (v := nI 0) hx hb dX1_paired_41 (by decide +kernel) ?_
  refine tw_iald hx hb hK hP 3 2 rfl rfl (by omega) (by decide) dX1_paired_42 ?_
  refine lv_istore_n (lv' := [(3, .int (((m_wrk lt ge gu op le 0 a b (a + 1) (sc, ct)).1) 0)), (0, .ref (q 0)), (1, .int (nI a)), (2, .int (nI b))]) hx hb dX1_paired_43 rfl hl (by decide) rfl (fun ls hl => ?_)
  refine lv_aload_n hx hb dX1_paired_44 rfl (lv_at hl 1 rfl) ?_
  refine tw_calli (n := 0) (rest := []) (wr := []) (w' := (mw q d lt cn ge gu op le ((m_wrk lt ge gu op le 0 (cn 0) (cn 1) (cn 0 + 1) (((m_wrk lt ge gu op le 0 a b (a + 1) (sc, ct)).1), ((m_wrk lt ge gu op le 0 a b (a + 1) (sc, ct)).2))).1) ((m_wrk lt ge gu op le 0 (cn 0) (cn 1) (cn 0 + 1) (((m_wrk lt ge gu op le 0 a b (a + 1) (sc, ct)).1), ((m_wrk lt ge gu op le 0 a b (a + 1) (sc, ct)).2))).2))) (kX1_best l D q d lt cn ge gu op le ((m_wrk lt ge gu op le 0 a b (a + 1) (sc, ct)).1) ((m_wrk lt ge gu op le 0 a b (a + 1) (sc, ct)).2) (by omega) (by omega)) S (lw_V q240 q207 q208 q21 q209) (by decide +kernel) ⟨Nat.le_of_ble_eq_true rfl, Nat.le_of_ble_eq_true rfl⟩ hK hP hD hS hA [0, 1, 2, 3, 4] [] [0, 1, 2, 3] rfl rfl (by decide) (by decide) (fun i h => absurd h List.not_mem_nil) rfl (ci := 1) rfl (q0 := 0) rfl rfl rfl hl.1 (Nat.le_of_ble_eq_true rfl) dX1_paired_45 ⟨Nat.zero_le _, Nat.zero_le _⟩ (fun H locs hP hD hS => ?_)
  have hP : va_P D vwCl (mw q d lt cn ge gu op le ((m_wrk lt ge gu op le 0 (cn 0) (cn 1) (cn 0 + 1) (((m_wrk lt ge gu op le 0 a b (a + 1) (sc, ct)).1), ((m_wrk lt ge gu op le 0 a b (a + 1) (sc, ct)).2))).1) ((m_wrk lt ge gu op le 0 (cn 0) (cn 1) (cn 0 + 1) (((m_wrk lt ge gu op le 0 a b (a + 1) (sc, ct)).1), ((m_wrk lt ge gu op le 0 a b (a + 1) (sc, ct)).2))).2)) H := hP
  have hD : va_D A (mw q d lt cn ge gu op le ((m_wrk lt ge gu op le 0 (cn 0) (cn 1) (cn 0 + 1) (((m_wrk lt ge gu op le 0 a b (a + 1) (sc, ct)).1), ((m_wrk lt ge gu op le 0 a b (a + 1) (sc, ct)).2))).1) ((m_wrk lt ge gu op le 0 (cn 0) (cn 1) (cn 0 + 1) (((m_wrk lt ge gu op le 0 a b (a + 1) (sc, ct)).1), ((m_wrk lt ge gu op le 0 a b (a + 1) (sc, ct)).2))).2)) := hD
  refine lv_istore (lv' := [(4, .int ((m_wrk lt ge gu op le 0 (cn 0) (cn 1) (cn 0 + 1) (((m_wrk lt ge gu op le 0 a b (a + 1) (sc, ct)).1), ((m_wrk lt ge gu op le 0 a b (a + 1) (sc, ct)).2))).1 0)), (3, .int (((m_wrk lt ge gu op le 0 a b (a + 1) (sc, ct)).1) 0)), (0, .ref (q 0)), (1, .int (nI a)), (2, .int (nI b))]) hx hb dX1_paired_48 hl (by decide) rfl (fun ls hl => ?_)
  refine lv_iload_n hx hb dX1_paired_50 rfl (lv_at hl 1 rfl) ?_
  refine lv_aload_n hx hb dX1_paired_51 rfl (lv_at hl 2 rfl) ?_
  refine lv_iload_n hx hb dX1_paired_52 rfl (lv_at hl 3 rfl) ?_
  refine lv_iload_n hx hb dX1_paired_53 rfl (lv_at hl 4 rfl) ?_
  refine tw_calli (n := 2) (rest := [.int (((m_wrk lt ge gu op le 0 a b (a + 1) (sc, ct)).1) 0)]) (wr := []) (w' := (mw q d lt cn ge gu op le ((m_wrk lt ge gu op le 0 (cn 0) (cn 1) (cn 0 + 1) (((m_wrk lt ge gu op le 0 a b (a + 1) (sc, ct)).1), ((m_wrk lt ge gu op le 0 a b (a + 1) (sc, ct)).2))).1) ((m_wrk lt ge gu op le 0 (cn 0) (cn 1) (cn 0 + 1) (((m_wrk lt ge gu op le 0 a b (a + 1) (sc, ct)).1), ((m_wrk lt ge gu op le 0 a b (a + 1) (sc, ct)).2))).2))) (kX1_gain l D q d lt cn ge gu op le ((m_wrk lt ge gu op le 0 (cn 0) (cn 1) (cn 0 + 1) (((m_wrk lt ge gu op le 0 a b (a + 1) (sc, ct)).1), ((m_wrk lt ge gu op le 0 a b (a + 1) (sc, ct)).2))).1) ((m_wrk lt ge gu op le 0 (cn 0) (cn 1) (cn 0 + 1) (((m_wrk lt ge gu op le 0 a b (a + 1) (sc, ct)).1), ((m_wrk lt ge gu op le 0 a b (a + 1) (sc, ct)).2))).2) a b (by omega) (by omega)) S (lw_V q224 q226 qs15 q21 q227) (by decide +kernel) ⟨Nat.le_of_ble_eq_true rfl, Nat.le_of_ble_eq_true rfl⟩ hK hP hD hS hA [0, 1, 2, 3, 4] [] [0, 1, 2, 3] rfl rfl (by decide) (by decide) (fun i h => absurd h List.not_mem_nil) rfl (ci := 1) rfl (q0 := 0) rfl rfl rfl hl.1 (Nat.le_of_ble_eq_true rfl) dX1_paired_54 ⟨Nat.zero_le _, Nat.zero_le _⟩ (fun H locs hP hD hS => ?_)
  have hP : va_P D vwCl (mw q d lt cn ge gu op le ((m_wrk lt ge gu op le 0 (cn 0) (cn 1) (cn 0 + 1) (((m_wrk lt ge gu op le 0 a b (a + 1) (sc, ct)).1), ((m_wrk lt ge gu op le 0 a b (a + 1) (sc, ct)).2))).1) ((m_wrk lt ge gu op le 0 (cn 0) (cn 1) (cn 0 + 1) (((m_wrk lt ge gu op le 0 a b (a + 1) (sc, ct)).1), ((m_wrk lt ge gu op le 0 a b (a + 1) (sc, ct)).2))).2)) H := hP
  have hD : va_D A (mw q d lt cn ge gu op le ((m_wrk lt ge gu op le 0 (cn 0) (cn 1) (cn 0 + 1) (((m_wrk lt ge gu op le 0 a b (a + 1) (sc, ct)).1), ((m_wrk lt ge gu op le 0 a b (a + 1) (sc, ct)).2))).1) ((m_wrk lt ge gu op le 0 (cn 0) (cn 1) (cn 0 + 1) (((m_wrk lt ge gu op le 0 a b (a + 1) (sc, ct)).1), ((m_wrk lt ge gu op le 0 a b (a + 1) (sc, ct)).2))).2)) := hD
  refine lv_iadd hx hb dX1_paired_57 ?_
  refine lv_aload_n hx hb dX1_paired_58 rfl (lv_at hl 2 rfl) ?_
  refine va_get (D := D) (ci := 1) (v := .ref (q 3)) (C := RX1) (T := TX1) (N := 8) hx hb hts in_X1 hown hK hP 0 rfl rfl 6 (by decide) (hts _ q175) (fun _ h9 => h9) rfl dX1_paired_59 ?_
  refine lv_iload_n hx hb dX1_paired_62 rfl (lv_at hl 3 rfl) ?_
  refine lv_iconst (v := nI 1) hx hb dX1_paired_63 (by decide +kernel) ?_
  refine tw_iadd hx hb dX1_paired_64 ?_
  refine lv_bipush (v := nI 11) hx hb dX1_paired_65 (by decide +kernel) ?_
  refine tw_imul hx hb dX1_paired_67 ?_
  refine lv_iload_n hx hb dX1_paired_68 rfl (lv_at hl 4 rfl) ?_
  refine tw_iadd hx hb dX1_paired_69 ?_
  refine lv_iconst (v := nI 1) hx hb dX1_paired_70 (by decide +kernel) ?_
  refine tw_iadd hx hb dX1_paired_71 ?_
  refine lv_iconst (v := nI 3) hx hb dX1_paired_72 (by decide +kernel) ?_
  refine tw_imul hx hb dX1_paired_73 ?_
  refine tw_iald hx hb hK hP 3 2 rfl rfl (by omega) (by decide) dX1_paired_74 ?_
  refine lv_iadd hx hb dX1_paired_75 ?_
  refine lv_iload hx hb dX1_paired_76 (lv_at hl 0 rfl) ?_
  refine lv_icmp_ne (tgt := 85) hx hb dX1_paired_78 (by decide) (fun c_78 => ?_) (fun c_78 => ?_)
  · 
    refine lv_iconst (v := nI 0) hx hb dX1_paired_85 (by decide +kernel) ?_
    have hP : va_P D vwCl (mw q d lt cn ge gu op le ((m_wrk lt ge gu op le 0 (cn 0) (cn 1) (cn 0 + 1) ((m_wrk lt ge gu op le 0 a b (a + 1) (sc, ct)).1, (m_wrk lt ge gu op le 0 a b (a + 1) (sc, ct)).2)).1) ((m_wrk lt ge gu op le 0 (cn 0) (cn 1) (cn 0 + 1) ((m_wrk lt ge gu op le 0 a b (a + 1) (sc, ct)).1, (m_wrk lt ge gu op le 0 a b (a + 1) (sc, ct)).2)).2)) H := hP
    have hD : va_D A (mw q d lt cn ge gu op le ((m_wrk lt ge gu op le 0 (cn 0) (cn 1) (cn 0 + 1) ((m_wrk lt ge gu op le 0 a b (a + 1) (sc, ct)).1, (m_wrk lt ge gu op le 0 a b (a + 1) (sc, ct)).2)).1) ((m_wrk lt ge gu op le 0 (cn 0) (cn 1) (cn 0 + 1) ((m_wrk lt ge gu op le 0 a b (a + 1) (sc, ct)).1, (m_wrk lt ge gu op le 0 a b (a + 1) (sc, ct)).2)).2)) := hD
    exact tw_zret hx hb hr hlocks (by decide +kernel) hK hP hD hS ((if_neg c_78).symm) dX1_paired_86
  · 
    refine lv_iconst (v := nI 1) hx hb dX1_paired_81 (by decide +kernel) ?_
    refine lv_goto (tgt := 86) hx hb dX1_paired_82 (by decide) ?_
    have hP : va_P D vwCl (mw q d lt cn ge gu op le ((m_wrk lt ge gu op le 0 (cn 0) (cn 1) (cn 0 + 1) ((m_wrk lt ge gu op le 0 a b (a + 1) (sc, ct)).1, (m_wrk lt ge gu op le 0 a b (a + 1) (sc, ct)).2)).1) ((m_wrk lt ge gu op le 0 (cn 0) (cn 1) (cn 0 + 1) ((m_wrk lt ge gu op le 0 a b (a + 1) (sc, ct)).1, (m_wrk lt ge gu op le 0 a b (a + 1) (sc, ct)).2)).2)) H := hP
    have hD : va_D A (mw q d lt cn ge gu op le ((m_wrk lt ge gu op le 0 (cn 0) (cn 1) (cn 0 + 1) ((m_wrk lt ge gu op le 0 a b (a + 1) (sc, ct)).1, (m_wrk lt ge gu op le 0 a b (a + 1) (sc, ct)).2)).1) ((m_wrk lt ge gu op le 0 (cn 0) (cn 1) (cn 0 + 1) ((m_wrk lt ge gu op le 0 a b (a + 1) (sc, ct)).1, (m_wrk lt ge gu op le 0 a b (a + 1) (sc, ct)).2)).2)) := hD
    exact tw_zret hx hb hr hlocks (by decide +kernel) hK hP hD hS ((if_pos c_78).symm) dX1_paired_86
set_option maxHeartbeats 4000000 in
set_option maxRecDepth 100000 in
theorem kX1_type_bad (a : Int32) (b : Int32) (h1 : a < 0 ∨ nI 1 < a ∨ b < 0 ∨ nI 3 < b) : Ci l yX1_type cX1_type 3 .int 0 0 D vwCl (mt d) [.ref (q 0), .int a, .int b] (mw q d lt cn ge gu op le sc ct) (-1000) (mw q d lt cn ge gu op le sc ct) := by
  refine Ci.of (by decide +kernel) (Nat.le_of_ble_eq_true rfl) ?_
  intro p e s m below meth c A ls hx hb hr hlocks hml hown hts hK hP hD hS hA hl
  have hown : s.vm.findClass RX1 = some m.cls := hown
  have S : CallFix p m c cX1_type 3 s ([.ref (q 0), .int a, .int b] : List Value).toArray lw_all RX1 := ⟨hx, hb, hml, hown, hts⟩
  have hl : lv_has ls 3 [(0, .ref (q 0)), (1, .int a), (2, .int b)] := hl
  refine lv_iload_n hx hb dX1_type_0 rfl (lv_at hl 1 rfl) ?_
  refine lv_if_lt (tgt := 18) hx hb dX1_type_1 (by decide) (fun c_1 => ?_) (fun c_1 => ?_)
  · 
    refine lv_sipush (v := -1000) hx hb dX1_type_18 (by decide +kernel) ?_
    exact tw_iret hx hb hr hlocks hK hP hD hS (rfl) dX1_type_21
  · 
    refine lv_iload_n hx hb dX1_type_4 rfl (lv_at hl 1 rfl) ?_
    refine lv_iconst (v := nI 1) hx hb dX1_type_5 (by decide +kernel) ?_
    refine lv_icmp_gt (tgt := 18) hx hb dX1_type_6 (by decide) (fun c_6 => ?_) (fun c_6 => ?_)
    · 
      refine lv_sipush (v := -1000) hx hb dX1_type_18 (by decide +kernel) ?_
      exact tw_iret hx hb hr hlocks hK hP hD hS (rfl) dX1_type_21
    · 
      refine lv_iload_n hx hb dX1_type_9 rfl (lv_at hl 2 rfl) ?_
      refine lv_if_lt (tgt := 18) hx hb dX1_type_10 (by decide) (fun c_10 => ?_) (fun c_10 => ?_)
      · 
        refine lv_sipush (v := -1000) hx hb dX1_type_18 (by decide +kernel) ?_
        exact tw_iret hx hb hr hlocks hK hP hD hS (rfl) dX1_type_21
      · 
        refine lv_iload_n hx hb dX1_type_13 rfl (lv_at hl 2 rfl) ?_
        refine lv_iconst (v := nI 3) hx hb dX1_type_14 (by decide +kernel) ?_
        refine lv_icmp_le (tgt := 22) hx hb dX1_type_15 (by decide) (fun c_15 => False.elim (by rcases h1 with h9 | h9 | h9 | h9; exact c_1 h9; exact c_6 h9; exact c_10 h9; exact tw_nle h9 c_15)) (fun c_15 => ?_)
        refine lv_sipush (v := -1000) hx hb dX1_type_18 (by decide +kernel) ?_
        exact tw_iret hx hb hr hlocks hK hP hD hS (rfl) dX1_type_21
set_option maxHeartbeats 4000000 in
set_option maxRecDepth 100000 in
theorem kX1_type_full (a : Nat) (b : Nat) (h1 : a < 2) (h2 : b < 4) (h3 : cn a = 10) : Ci l yX1_type cX1_type 3 .int 0 0 D vwCl (mt d) [.ref (q 0), .int (nI a), .int (nI b)] (mw q d lt cn ge gu op le sc ct) (-1001) (mw q d lt cn ge gu op le sc ct) := by
  refine Ci.of (by decide +kernel) (Nat.le_of_ble_eq_true rfl) ?_
  intro p e s m below meth c A ls hx hb hr hlocks hml hown hts hK hP hD hS hA hl
  have hown : s.vm.findClass RX1 = some m.cls := hown
  have S : CallFix p m c cX1_type 3 s ([.ref (q 0), .int (nI a), .int (nI b)] : List Value).toArray lw_all RX1 := ⟨hx, hb, hml, hown, hts⟩
  have hl : lv_has ls 3 [(0, .ref (q 0)), (1, .int (nI a)), (2, .int (nI b))] := hl
  refine lv_iload_n hx hb dX1_type_0 rfl (lv_at hl 1 rfl) ?_
  refine tw_if_lt (tgt := 18) hx hb (by omega) dX1_type_1 (by decide) ?_
  refine lv_iload_n hx hb dX1_type_4 rfl (lv_at hl 1 rfl) ?_
  refine lv_iconst (v := nI 1) hx hb dX1_type_5 (by decide +kernel) ?_
  refine tw_icmp_gt (tgt := 18) hx hb (by omega) (by omega) dX1_type_6 (by decide) (fun c_6 => False.elim (by omega)) (fun c_6 => ?_)
  refine lv_iload_n hx hb dX1_type_9 rfl (lv_at hl 2 rfl) ?_
  refine tw_if_lt (tgt := 18) hx hb (by omega) dX1_type_10 (by decide) ?_
  refine lv_iload_n hx hb dX1_type_13 rfl (lv_at hl 2 rfl) ?_
  refine lv_iconst (v := nI 3) hx hb dX1_type_14 (by decide +kernel) ?_
  refine tw_icmp_le (tgt := 22) hx hb (by omega) (by omega) dX1_type_15 (by decide) (fun c_15 => ?_) (fun c_15 => False.elim (by omega))
  refine lv_aload_n hx hb dX1_type_22 rfl (lv_at hl 0 rfl) ?_
  refine va_get (D := D) (ci := 1) (v := .ref (q 2)) (C := RX1) (T := TX1) (N := 8) hx hb hts in_X1 hown hK hP 0 rfl rfl 1 (by decide) (hts _ q170) (fun _ h9 => h9) rfl dX1_type_23 ?_
  refine lv_iload_n hx hb dX1_type_26 rfl (lv_at hl 1 rfl) ?_
  refine tw_iald hx hb hK hP 2 1 rfl rfl (by omega) (by decide) dX1_type_27 ?_
  refine lv_bipush (v := nI 10) hx hb dX1_type_28 (by decide +kernel) ?_
  refine tw_icmp_ne (tgt := 37) hx hb (by omega) (by omega) dX1_type_30 (by decide) (fun c_30 => False.elim (by omega)) (fun c_30 => ?_)
  refine lv_sipush (v := -1001) hx hb dX1_type_33 (by decide +kernel) ?_
  exact tw_iret hx hb hr hlocks hK hP hD hS (rfl) dX1_type_36
set_option maxHeartbeats 4000000 in
set_option maxRecDepth 100000 in
theorem kX1_type_ok (a : Nat) (b : Nat) (h1 : a < 2) (h2 : b < 4) (h3 : cn a < 10) : Ci l yX1_type cX1_type 3 .int 0 0 D vwCl (mt d) [.ref (q 0), .int (nI a), .int (nI b)] (mw q d lt cn ge gu op le sc ct) (nI (cn a + 1)) (mw q d (upd lt (a * 10 + cn a) (nI b)) (tw_un cn a (cn a + 1)) ge gu op le sc ct) := by
  refine Ci.of (by decide +kernel) (Nat.le_of_ble_eq_true rfl) ?_
  intro p e s m below meth c A ls hx hb hr hlocks hml hown hts hK hP hD hS hA hl
  have hown : s.vm.findClass RX1 = some m.cls := hown
  have S : CallFix p m c cX1_type 3 s ([.ref (q 0), .int (nI a), .int (nI b)] : List Value).toArray lw_all RX1 := ⟨hx, hb, hml, hown, hts⟩
  have hl : lv_has ls 3 [(0, .ref (q 0)), (1, .int (nI a)), (2, .int (nI b))] := hl
  refine lv_iload_n hx hb dX1_type_0 rfl (lv_at hl 1 rfl) ?_
  refine tw_if_lt (tgt := 18) hx hb (by omega) dX1_type_1 (by decide) ?_
  refine lv_iload_n hx hb dX1_type_4 rfl (lv_at hl 1 rfl) ?_
  refine lv_iconst (v := nI 1) hx hb dX1_type_5 (by decide +kernel) ?_
  refine tw_icmp_gt (tgt := 18) hx hb (by omega) (by omega) dX1_type_6 (by decide) (fun c_6 => False.elim (by omega)) (fun c_6 => ?_)
  refine lv_iload_n hx hb dX1_type_9 rfl (lv_at hl 2 rfl) ?_
  refine tw_if_lt (tgt := 18) hx hb (by omega) dX1_type_10 (by decide) ?_
  refine lv_iload_n hx hb dX1_type_13 rfl (lv_at hl 2 rfl) ?_
  refine lv_iconst (v := nI 3) hx hb dX1_type_14 (by decide +kernel) ?_
  refine tw_icmp_le (tgt := 22) hx hb (by omega) (by omega) dX1_type_15 (by decide) (fun c_15 => ?_) (fun c_15 => False.elim (by omega))
  refine lv_aload_n hx hb dX1_type_22 rfl (lv_at hl 0 rfl) ?_
  refine va_get (D := D) (ci := 1) (v := .ref (q 2)) (C := RX1) (T := TX1) (N := 8) hx hb hts in_X1 hown hK hP 0 rfl rfl 1 (by decide) (hts _ q170) (fun _ h9 => h9) rfl dX1_type_23 ?_
  refine lv_iload_n hx hb dX1_type_26 rfl (lv_at hl 1 rfl) ?_
  refine tw_iald hx hb hK hP 2 1 rfl rfl (by omega) (by decide) dX1_type_27 ?_
  refine lv_bipush (v := nI 10) hx hb dX1_type_28 (by decide +kernel) ?_
  refine tw_icmp_ne (tgt := 37) hx hb (by omega) (by omega) dX1_type_30 (by decide) (fun c_30 => ?_) (fun c_30 => False.elim (by omega))
  refine lv_aload_n hx hb dX1_type_37 rfl (lv_at hl 0 rfl) ?_
  refine va_get (D := D) (ci := 1) (v := .ref (q 1)) (C := RX1) (T := TX1) (N := 8) hx hb hts in_X1 hown hK hP 0 rfl rfl 0 (by decide) (hts _ q169) (fun _ h9 => h9) rfl dX1_type_38 ?_
  refine lv_iload_n hx hb dX1_type_41 rfl (lv_at hl 1 rfl) ?_
  refine lv_bipush (v := nI 10) hx hb dX1_type_42 (by decide +kernel) ?_
  refine tw_imul hx hb dX1_type_44 ?_
  refine lv_aload_n hx hb dX1_type_45 rfl (lv_at hl 0 rfl) ?_
  refine va_get (D := D) (ci := 1) (v := .ref (q 2)) (C := RX1) (T := TX1) (N := 8) hx hb hts in_X1 hown hK hP 0 rfl rfl 1 (by decide) (hts _ q170) (fun _ h9 => h9) rfl dX1_type_46 ?_
  refine lv_iload_n hx hb dX1_type_49 rfl (lv_at hl 1 rfl) ?_
  refine tw_iald hx hb hK hP 2 1 rfl rfl (by omega) (by decide) dX1_type_50 ?_
  refine tw_iadd hx hb dX1_type_51 ?_
  refine lv_iload_n hx hb dX1_type_52 rfl (lv_at hl 2 rfl) ?_
  refine tw_iast hx hb hK hP hD hS 1 0 rfl rfl (by omega) (by decide) dX1_type_53 (fun H locs hP hD hS => ?_)
  have hP : va_P D vwCl (mw q d (upd lt (a * 10 + cn a) (nI b)) cn ge gu op le sc ct) H := hP
  have hD : va_D A (mw q d (upd lt (a * 10 + cn a) (nI b)) cn ge gu op le sc ct) := hD
  refine lv_aload_n hx hb dX1_type_54 rfl (lv_at hl 0 rfl) ?_
  refine va_get (D := D) (ci := 1) (v := .ref (q 2)) (C := RX1) (T := TX1) (N := 8) hx hb hts in_X1 hown hK hP 0 rfl rfl 1 (by decide) (hts _ q170) (fun _ h9 => h9) rfl dX1_type_55 ?_
  refine lv_iload_n hx hb dX1_type_58 rfl (lv_at hl 1 rfl) ?_
  refine lv_dup2_11 hx hb dX1_type_59 rfl rfl ?_
  refine tw_iald hx hb hK hP 2 1 rfl rfl (by omega) (by decide) dX1_type_60 ?_
  refine lv_iconst (v := nI 1) hx hb dX1_type_61 (by decide +kernel) ?_
  refine tw_iadd hx hb dX1_type_62 ?_
  refine tw_iast hx hb hK hP hD hS 2 1 rfl rfl (by omega) (by decide) dX1_type_63 (fun H locs hP hD hS => ?_)
  rw [tw_updN] at hP hD
  have hP : va_P D vwCl (mw q d (upd lt (a * 10 + cn a) (nI b)) (tw_un cn a (cn a + 1)) ge gu op le sc ct) H := hP
  have hD : va_D A (mw q d (upd lt (a * 10 + cn a) (nI b)) (tw_un cn a (cn a + 1)) ge gu op le sc ct) := hD
  refine lv_aload_n hx hb dX1_type_64 rfl (lv_at hl 0 rfl) ?_
  refine va_get (D := D) (ci := 1) (v := .ref (q 2)) (C := RX1) (T := TX1) (N := 8) hx hb hts in_X1 hown hK hP 0 rfl rfl 1 (by decide) (hts _ q170) (fun _ h9 => h9) rfl dX1_type_65 ?_
  refine lv_iload_n hx hb dX1_type_68 rfl (lv_at hl 1 rfl) ?_
  refine tw_iald hx hb hK hP 2 1 rfl rfl (by omega) (by decide) dX1_type_69 ?_
  exact tw_iret hx hb hr hlocks hK hP hD hS (by simp [tw_un]) dX1_type_70
set_option maxHeartbeats 4000000 in
set_option maxRecDepth 100000 in
theorem kX1_wipe_bad (a : Int32) (h1 : a < 0 ∨ nI 1 < a) : Ci l yX1_wipe cX1_wipe 3 .int 0 0 D vwCl (mt d) [.ref (q 0), .int a] (mw q d lt cn ge gu op le sc ct) (-1000) (mw q d lt cn ge gu op le sc ct) := by
  refine Ci.of (by decide +kernel) (Nat.le_of_ble_eq_true rfl) ?_
  intro p e s m below meth c A ls hx hb hr hlocks hml hown hts hK hP hD hS hA hl
  have hown : s.vm.findClass RX1 = some m.cls := hown
  have S : CallFix p m c cX1_wipe 3 s ([.ref (q 0), .int a] : List Value).toArray lw_all RX1 := ⟨hx, hb, hml, hown, hts⟩
  have hl : lv_has ls 3 [(0, .ref (q 0)), (1, .int a)] := hl
  refine lv_iload_n hx hb dX1_wipe_0 rfl (lv_at hl 1 rfl) ?_
  refine lv_if_lt (tgt := 9) hx hb dX1_wipe_1 (by decide) (fun c_1 => ?_) (fun c_1 => ?_)
  · 
    refine lv_sipush (v := -1000) hx hb dX1_wipe_9 (by decide +kernel) ?_
    exact tw_iret hx hb hr hlocks hK hP hD hS (rfl) dX1_wipe_12
  · 
    refine lv_iload_n hx hb dX1_wipe_4 rfl (lv_at hl 1 rfl) ?_
    refine lv_iconst (v := nI 1) hx hb dX1_wipe_5 (by decide +kernel) ?_
    refine lv_icmp_le (tgt := 13) hx hb dX1_wipe_6 (by decide) (fun c_6 => False.elim (by rcases h1 with h9 | h9; exact c_1 h9; exact tw_nle h9 c_6)) (fun c_6 => ?_)
    refine lv_sipush (v := -1000) hx hb dX1_wipe_9 (by decide +kernel) ?_
    exact tw_iret hx hb hr hlocks hK hP hD hS (rfl) dX1_wipe_12
set_option maxHeartbeats 4000000 in
set_option maxRecDepth 100000 in
theorem kX1_wipe_ok (a : Nat) (h1 : a < 2) : Ci l yX1_wipe cX1_wipe 3 .int 0 0 D vwCl (mt d) [.ref (q 0), .int (nI a)] (mw q d lt cn ge gu op le sc ct) (nI (cn a)) (mw q d lt (tw_un cn a 0) ge gu op le sc ct) := by
  refine Ci.of (by decide +kernel) (Nat.le_of_ble_eq_true rfl) ?_
  intro p e s m below meth c A ls hx hb hr hlocks hml hown hts hK hP hD hS hA hl
  have hown : s.vm.findClass RX1 = some m.cls := hown
  have S : CallFix p m c cX1_wipe 3 s ([.ref (q 0), .int (nI a)] : List Value).toArray lw_all RX1 := ⟨hx, hb, hml, hown, hts⟩
  have hl : lv_has ls 3 [(0, .ref (q 0)), (1, .int (nI a))] := hl
  refine lv_iload_n hx hb dX1_wipe_0 rfl (lv_at hl 1 rfl) ?_
  refine tw_if_lt (tgt := 9) hx hb (by omega) dX1_wipe_1 (by decide) ?_
  refine lv_iload_n hx hb dX1_wipe_4 rfl (lv_at hl 1 rfl) ?_
  refine lv_iconst (v := nI 1) hx hb dX1_wipe_5 (by decide +kernel) ?_
  refine tw_icmp_le (tgt := 13) hx hb (by omega) (by omega) dX1_wipe_6 (by decide) (fun c_6 => ?_) (fun c_6 => False.elim (by omega))
  refine lv_aload_n hx hb dX1_wipe_13 rfl (lv_at hl 0 rfl) ?_
  refine va_get (D := D) (ci := 1) (v := .ref (q 2)) (C := RX1) (T := TX1) (N := 8) hx hb hts in_X1 hown hK hP 0 rfl rfl 1 (by decide) (hts _ q170) (fun _ h9 => h9) rfl dX1_wipe_14 ?_
  refine lv_iload_n hx hb dX1_wipe_17 rfl (lv_at hl 1 rfl) ?_
  refine tw_iald hx hb hK hP 2 1 rfl rfl (by omega) (by decide) dX1_wipe_18 ?_
  refine lv_istore_n (lv' := [(2, .int (nI (cn a))), (0, .ref (q 0)), (1, .int (nI a))]) hx hb dX1_wipe_19 rfl hl (by decide) rfl (fun ls hl => ?_)
  refine lv_aload_n hx hb dX1_wipe_20 rfl (lv_at hl 1 rfl) ?_
  refine va_get (D := D) (ci := 1) (v := .ref (q 2)) (C := RX1) (T := TX1) (N := 8) hx hb hts in_X1 hown hK hP 0 rfl rfl 1 (by decide) (hts _ q170) (fun _ h9 => h9) rfl dX1_wipe_21 ?_
  refine lv_iload_n hx hb dX1_wipe_24 rfl (lv_at hl 2 rfl) ?_
  refine lv_iconst (v := nI 0) hx hb dX1_wipe_25 (by decide +kernel) ?_
  refine tw_iast hx hb hK hP hD hS 2 1 rfl rfl (by omega) (by decide) dX1_wipe_26 (fun H locs hP hD hS => ?_)
  rw [tw_updN] at hP hD
  have hP : va_P D vwCl (mw q d lt (tw_un cn a 0) ge gu op le sc ct) H := hP
  have hD : va_D A (mw q d lt (tw_un cn a 0) ge gu op le sc ct) := hD
  refine lv_iload_n hx hb dX1_wipe_27 rfl (lv_at hl 0 rfl) ?_
  exact tw_iret hx hb hr hlocks hK hP hD hS (rfl) dX1_wipe_28
set_option maxHeartbeats 4000000 in
set_option maxRecDepth 100000 in
theorem kX1_rules_bad (a : Int32) (b : Int32) (o : Int32) (t : Int32) (h1 : a < -9 ∨ nI 9 < a ∨ b < -9 ∨ nI 9 < b ∨ o < 0 ∨ nI 9 < o ∨ t < 0 ∨ nI 9 < t) : Ci l yX1_rules cX1_rules 5 .boolean 0 0 D vwCl (mt d) [.ref (q 0), .int a, .int b, .int o, .int t] (mw q d lt cn ge gu op le sc ct) (nI 0) (mw q d lt cn ge gu op le sc ct) := by
  refine Ci.of (by decide +kernel) (Nat.le_of_ble_eq_true rfl) ?_
  intro p e s m below meth c A ls hx hb hr hlocks hml hown hts hK hP hD hS hA hl
  have hown : s.vm.findClass RX1 = some m.cls := hown
  have S : CallFix p m c cX1_rules 5 s ([.ref (q 0), .int a, .int b, .int o, .int t] : List Value).toArray lw_all RX1 := ⟨hx, hb, hml, hown, hts⟩
  have hl : lv_has ls 5 [(0, .ref (q 0)), (1, .int a), (2, .int b), (3, .int o), (4, .int t)] := hl
  by_cases a1 : a < -9
  · 
    refine lv_iload_n hx hb dX1_rules_0 rfl (lv_at hl 1 rfl) ?_
    refine lv_bipush (v := -9) hx hb dX1_rules_1 (by decide +kernel) ?_
    refine lv_icmp_lt (tgt := 24) hx hb dX1_rules_3 (by decide) (fun c_3 => ?_) (fun c_3 => False.elim (c_3 a1))
    refine lv_iconst (v := nI 0) hx hb dX1_rules_24 (by decide +kernel) ?_
    exact tw_zret hx hb hr hlocks (by decide +kernel) hK hP hD hS (rfl) dX1_rules_25
  · 
    by_cases a2 : nI 9 < a
    · 
      refine lv_iload_n hx hb dX1_rules_0 rfl (lv_at hl 1 rfl) ?_
      refine lv_bipush (v := -9) hx hb dX1_rules_1 (by decide +kernel) ?_
      refine lv_icmp_lt (tgt := 24) hx hb dX1_rules_3 (by decide) (fun c_3 => False.elim (a1 c_3)) (fun c_3 => ?_)
      refine lv_iload_n hx hb dX1_rules_6 rfl (lv_at hl 1 rfl) ?_
      refine lv_bipush (v := nI 9) hx hb dX1_rules_7 (by decide +kernel) ?_
      refine lv_icmp_gt (tgt := 24) hx hb dX1_rules_9 (by decide) (fun c_9 => ?_) (fun c_9 => False.elim (c_9 a2))
      refine lv_iconst (v := nI 0) hx hb dX1_rules_24 (by decide +kernel) ?_
      exact tw_zret hx hb hr hlocks (by decide +kernel) hK hP hD hS (rfl) dX1_rules_25
    · 
      by_cases a3 : b < -9
      · 
        refine lv_iload_n hx hb dX1_rules_0 rfl (lv_at hl 1 rfl) ?_
        refine lv_bipush (v := -9) hx hb dX1_rules_1 (by decide +kernel) ?_
        refine lv_icmp_lt (tgt := 24) hx hb dX1_rules_3 (by decide) (fun c_3 => False.elim (a1 c_3)) (fun c_3 => ?_)
        refine lv_iload_n hx hb dX1_rules_6 rfl (lv_at hl 1 rfl) ?_
        refine lv_bipush (v := nI 9) hx hb dX1_rules_7 (by decide +kernel) ?_
        refine lv_icmp_gt (tgt := 24) hx hb dX1_rules_9 (by decide) (fun c_9 => False.elim (a2 c_9)) (fun c_9 => ?_)
        refine lv_iload_n hx hb dX1_rules_12 rfl (lv_at hl 2 rfl) ?_
        refine lv_bipush (v := -9) hx hb dX1_rules_13 (by decide +kernel) ?_
        refine lv_icmp_lt (tgt := 24) hx hb dX1_rules_15 (by decide) (fun c_15 => ?_) (fun c_15 => False.elim (c_15 a3))
        refine lv_iconst (v := nI 0) hx hb dX1_rules_24 (by decide +kernel) ?_
        exact tw_zret hx hb hr hlocks (by decide +kernel) hK hP hD hS (rfl) dX1_rules_25
      · 
        by_cases a4 : nI 9 < b
        · 
          refine lv_iload_n hx hb dX1_rules_0 rfl (lv_at hl 1 rfl) ?_
          refine lv_bipush (v := -9) hx hb dX1_rules_1 (by decide +kernel) ?_
          refine lv_icmp_lt (tgt := 24) hx hb dX1_rules_3 (by decide) (fun c_3 => False.elim (a1 c_3)) (fun c_3 => ?_)
          refine lv_iload_n hx hb dX1_rules_6 rfl (lv_at hl 1 rfl) ?_
          refine lv_bipush (v := nI 9) hx hb dX1_rules_7 (by decide +kernel) ?_
          refine lv_icmp_gt (tgt := 24) hx hb dX1_rules_9 (by decide) (fun c_9 => False.elim (a2 c_9)) (fun c_9 => ?_)
          refine lv_iload_n hx hb dX1_rules_12 rfl (lv_at hl 2 rfl) ?_
          refine lv_bipush (v := -9) hx hb dX1_rules_13 (by decide +kernel) ?_
          refine lv_icmp_lt (tgt := 24) hx hb dX1_rules_15 (by decide) (fun c_15 => False.elim (a3 c_15)) (fun c_15 => ?_)
          refine lv_iload_n hx hb dX1_rules_18 rfl (lv_at hl 2 rfl) ?_
          refine lv_bipush (v := nI 9) hx hb dX1_rules_19 (by decide +kernel) ?_
          refine lv_icmp_le (tgt := 26) hx hb dX1_rules_21 (by decide) (fun c_21 => False.elim (tw_nle a4 c_21)) (fun c_21 => ?_)
          refine lv_iconst (v := nI 0) hx hb dX1_rules_24 (by decide +kernel) ?_
          exact tw_zret hx hb hr hlocks (by decide +kernel) hK hP hD hS (rfl) dX1_rules_25
        · 
          by_cases a5 : o < 0
          · 
            refine lv_iload_n hx hb dX1_rules_0 rfl (lv_at hl 1 rfl) ?_
            refine lv_bipush (v := -9) hx hb dX1_rules_1 (by decide +kernel) ?_
            refine lv_icmp_lt (tgt := 24) hx hb dX1_rules_3 (by decide) (fun c_3 => False.elim (a1 c_3)) (fun c_3 => ?_)
            refine lv_iload_n hx hb dX1_rules_6 rfl (lv_at hl 1 rfl) ?_
            refine lv_bipush (v := nI 9) hx hb dX1_rules_7 (by decide +kernel) ?_
            refine lv_icmp_gt (tgt := 24) hx hb dX1_rules_9 (by decide) (fun c_9 => False.elim (a2 c_9)) (fun c_9 => ?_)
            refine lv_iload_n hx hb dX1_rules_12 rfl (lv_at hl 2 rfl) ?_
            refine lv_bipush (v := -9) hx hb dX1_rules_13 (by decide +kernel) ?_
            refine lv_icmp_lt (tgt := 24) hx hb dX1_rules_15 (by decide) (fun c_15 => False.elim (a3 c_15)) (fun c_15 => ?_)
            refine lv_iload_n hx hb dX1_rules_18 rfl (lv_at hl 2 rfl) ?_
            refine lv_bipush (v := nI 9) hx hb dX1_rules_19 (by decide +kernel) ?_
            refine lv_icmp_le (tgt := 26) hx hb dX1_rules_21 (by decide) (fun c_21 => ?_) (fun c_21 => False.elim (c_21 (tw_le_of a4)))
            refine lv_iload_n hx hb dX1_rules_26 rfl (lv_at hl 3 rfl) ?_
            refine lv_if_lt (tgt := 48) hx hb dX1_rules_27 (by decide) (fun c_27 => ?_) (fun c_27 => False.elim (c_27 a5))
            refine lv_iconst (v := nI 0) hx hb dX1_rules_48 (by decide +kernel) ?_
            exact tw_zret hx hb hr hlocks (by decide +kernel) hK hP hD hS (rfl) dX1_rules_49
          · 
            by_cases a6 : nI 9 < o
            · 
              refine lv_iload_n hx hb dX1_rules_0 rfl (lv_at hl 1 rfl) ?_
              refine lv_bipush (v := -9) hx hb dX1_rules_1 (by decide +kernel) ?_
              refine lv_icmp_lt (tgt := 24) hx hb dX1_rules_3 (by decide) (fun c_3 => False.elim (a1 c_3)) (fun c_3 => ?_)
              refine lv_iload_n hx hb dX1_rules_6 rfl (lv_at hl 1 rfl) ?_
              refine lv_bipush (v := nI 9) hx hb dX1_rules_7 (by decide +kernel) ?_
              refine lv_icmp_gt (tgt := 24) hx hb dX1_rules_9 (by decide) (fun c_9 => False.elim (a2 c_9)) (fun c_9 => ?_)
              refine lv_iload_n hx hb dX1_rules_12 rfl (lv_at hl 2 rfl) ?_
              refine lv_bipush (v := -9) hx hb dX1_rules_13 (by decide +kernel) ?_
              refine lv_icmp_lt (tgt := 24) hx hb dX1_rules_15 (by decide) (fun c_15 => False.elim (a3 c_15)) (fun c_15 => ?_)
              refine lv_iload_n hx hb dX1_rules_18 rfl (lv_at hl 2 rfl) ?_
              refine lv_bipush (v := nI 9) hx hb dX1_rules_19 (by decide +kernel) ?_
              refine lv_icmp_le (tgt := 26) hx hb dX1_rules_21 (by decide) (fun c_21 => ?_) (fun c_21 => False.elim (c_21 (tw_le_of a4)))
              refine lv_iload_n hx hb dX1_rules_26 rfl (lv_at hl 3 rfl) ?_
              refine lv_if_lt (tgt := 48) hx hb dX1_rules_27 (by decide) (fun c_27 => False.elim (a5 c_27)) (fun c_27 => ?_)
              refine lv_iload_n hx hb dX1_rules_30 rfl (lv_at hl 3 rfl) ?_
              refine lv_bipush (v := nI 9) hx hb dX1_rules_31 (by decide +kernel) ?_
              refine lv_icmp_gt (tgt := 48) hx hb dX1_rules_33 (by decide) (fun c_33 => ?_) (fun c_33 => False.elim (c_33 a6))
              refine lv_iconst (v := nI 0) hx hb dX1_rules_48 (by decide +kernel) ?_
              exact tw_zret hx hb hr hlocks (by decide +kernel) hK hP hD hS (rfl) dX1_rules_49
            · 
              by_cases a7 : t < 0
              · 
                refine lv_iload_n hx hb dX1_rules_0 rfl (lv_at hl 1 rfl) ?_
                refine lv_bipush (v := -9) hx hb dX1_rules_1 (by decide +kernel) ?_
                refine lv_icmp_lt (tgt := 24) hx hb dX1_rules_3 (by decide) (fun c_3 => False.elim (a1 c_3)) (fun c_3 => ?_)
                refine lv_iload_n hx hb dX1_rules_6 rfl (lv_at hl 1 rfl) ?_
                refine lv_bipush (v := nI 9) hx hb dX1_rules_7 (by decide +kernel) ?_
                refine lv_icmp_gt (tgt := 24) hx hb dX1_rules_9 (by decide) (fun c_9 => False.elim (a2 c_9)) (fun c_9 => ?_)
                refine lv_iload_n hx hb dX1_rules_12 rfl (lv_at hl 2 rfl) ?_
                refine lv_bipush (v := -9) hx hb dX1_rules_13 (by decide +kernel) ?_
                refine lv_icmp_lt (tgt := 24) hx hb dX1_rules_15 (by decide) (fun c_15 => False.elim (a3 c_15)) (fun c_15 => ?_)
                refine lv_iload_n hx hb dX1_rules_18 rfl (lv_at hl 2 rfl) ?_
                refine lv_bipush (v := nI 9) hx hb dX1_rules_19 (by decide +kernel) ?_
                refine lv_icmp_le (tgt := 26) hx hb dX1_rules_21 (by decide) (fun c_21 => ?_) (fun c_21 => False.elim (c_21 (tw_le_of a4)))
                refine lv_iload_n hx hb dX1_rules_26 rfl (lv_at hl 3 rfl) ?_
                refine lv_if_lt (tgt := 48) hx hb dX1_rules_27 (by decide) (fun c_27 => False.elim (a5 c_27)) (fun c_27 => ?_)
                refine lv_iload_n hx hb dX1_rules_30 rfl (lv_at hl 3 rfl) ?_
                refine lv_bipush (v := nI 9) hx hb dX1_rules_31 (by decide +kernel) ?_
                refine lv_icmp_gt (tgt := 48) hx hb dX1_rules_33 (by decide) (fun c_33 => False.elim (a6 c_33)) (fun c_33 => ?_)
                refine lv_iload hx hb dX1_rules_36 (lv_at hl 4 rfl) ?_
                refine lv_if_lt (tgt := 48) hx hb dX1_rules_38 (by decide) (fun c_38 => ?_) (fun c_38 => False.elim (c_38 a7))
                refine lv_iconst (v := nI 0) hx hb dX1_rules_48 (by decide +kernel) ?_
                exact tw_zret hx hb hr hlocks (by decide +kernel) hK hP hD hS (rfl) dX1_rules_49
              · 
                have a8 : nI 9 < t := by
                  rcases h1 with h9 | h9 | h9 | h9 | h9 | h9 | h9 | h9
                  · exact absurd h9 a1
                  · exact absurd h9 a2
                  · exact absurd h9 a3
                  · exact absurd h9 a4
                  · exact absurd h9 a5
                  · exact absurd h9 a6
                  · exact absurd h9 a7
                  · exact h9
                refine lv_iload_n hx hb dX1_rules_0 rfl (lv_at hl 1 rfl) ?_
                refine lv_bipush (v := -9) hx hb dX1_rules_1 (by decide +kernel) ?_
                refine lv_icmp_lt (tgt := 24) hx hb dX1_rules_3 (by decide) (fun c_3 => False.elim (a1 c_3)) (fun c_3 => ?_)
                refine lv_iload_n hx hb dX1_rules_6 rfl (lv_at hl 1 rfl) ?_
                refine lv_bipush (v := nI 9) hx hb dX1_rules_7 (by decide +kernel) ?_
                refine lv_icmp_gt (tgt := 24) hx hb dX1_rules_9 (by decide) (fun c_9 => False.elim (a2 c_9)) (fun c_9 => ?_)
                refine lv_iload_n hx hb dX1_rules_12 rfl (lv_at hl 2 rfl) ?_
                refine lv_bipush (v := -9) hx hb dX1_rules_13 (by decide +kernel) ?_
                refine lv_icmp_lt (tgt := 24) hx hb dX1_rules_15 (by decide) (fun c_15 => False.elim (a3 c_15)) (fun c_15 => ?_)
                refine lv_iload_n hx hb dX1_rules_18 rfl (lv_at hl 2 rfl) ?_
                refine lv_bipush (v := nI 9) hx hb dX1_rules_19 (by decide +kernel) ?_
                refine lv_icmp_le (tgt := 26) hx hb dX1_rules_21 (by decide) (fun c_21 => ?_) (fun c_21 => False.elim (c_21 (tw_le_of a4)))
                refine lv_iload_n hx hb dX1_rules_26 rfl (lv_at hl 3 rfl) ?_
                refine lv_if_lt (tgt := 48) hx hb dX1_rules_27 (by decide) (fun c_27 => False.elim (a5 c_27)) (fun c_27 => ?_)
                refine lv_iload_n hx hb dX1_rules_30 rfl (lv_at hl 3 rfl) ?_
                refine lv_bipush (v := nI 9) hx hb dX1_rules_31 (by decide +kernel) ?_
                refine lv_icmp_gt (tgt := 48) hx hb dX1_rules_33 (by decide) (fun c_33 => False.elim (a6 c_33)) (fun c_33 => ?_)
                refine lv_iload hx hb dX1_rules_36 (lv_at hl 4 rfl) ?_
                refine lv_if_lt (tgt := 48) hx hb dX1_rules_38 (by decide) (fun c_38 => False.elim (a7 c_38)) (fun c_38 => ?_)
                refine lv_iload hx hb dX1_rules_41 (lv_at hl 4 rfl) ?_
                refine lv_bipush (v := nI 9) hx hb dX1_rules_43 (by decide +kernel) ?_
                refine lv_icmp_le (tgt := 50) hx hb dX1_rules_45 (by decide) (fun c_45 => False.elim (tw_nle a8 c_45)) (fun c_45 => ?_)
                refine lv_iconst (v := nI 0) hx hb dX1_rules_48 (by decide +kernel) ?_
                exact tw_zret hx hb hr hlocks (by decide +kernel) hK hP hD hS (rfl) dX1_rules_49
set_option maxHeartbeats 4000000 in
set_option maxRecDepth 100000 in
theorem kX1_rules_ok (a : Int32) (b : Int32) (o : Int32) (t : Int32) (h1 : ¬ a < -9) (h2 : ¬ nI 9 < a) (h3 : ¬ b < -9) (h4 : ¬ nI 9 < b) (h5 : ¬ o < 0) (h6 : ¬ nI 9 < o) (h7 : ¬ t < 0) (h8 : ¬ nI 9 < t) : Ci l yX1_rules cX1_rules 5 .boolean 0 0 D vwCl (mt d) [.ref (q 0), .int a, .int b, .int o, .int t] (mw q d lt cn ge gu op le sc ct) (nI 1) (mw q d lt cn a b o t sc ct) := by
  refine Ci.of (by decide +kernel) (Nat.le_of_ble_eq_true rfl) ?_
  intro p e s m below meth c A ls hx hb hr hlocks hml hown hts hK hP hD hS hA hl
  have hown : s.vm.findClass RX1 = some m.cls := hown
  have S : CallFix p m c cX1_rules 5 s ([.ref (q 0), .int a, .int b, .int o, .int t] : List Value).toArray lw_all RX1 := ⟨hx, hb, hml, hown, hts⟩
  have hl : lv_has ls 5 [(0, .ref (q 0)), (1, .int a), (2, .int b), (3, .int o), (4, .int t)] := hl
  refine lv_iload_n hx hb dX1_rules_0 rfl (lv_at hl 1 rfl) ?_
  refine lv_bipush (v := -9) hx hb dX1_rules_1 (by decide +kernel) ?_
  refine lv_icmp_lt (tgt := 24) hx hb dX1_rules_3 (by decide) (fun c_3 => False.elim (h1 c_3)) (fun c_3 => ?_)
  refine lv_iload_n hx hb dX1_rules_6 rfl (lv_at hl 1 rfl) ?_
  refine lv_bipush (v := nI 9) hx hb dX1_rules_7 (by decide +kernel) ?_
  refine lv_icmp_gt (tgt := 24) hx hb dX1_rules_9 (by decide) (fun c_9 => False.elim (h2 c_9)) (fun c_9 => ?_)
  refine lv_iload_n hx hb dX1_rules_12 rfl (lv_at hl 2 rfl) ?_
  refine lv_bipush (v := -9) hx hb dX1_rules_13 (by decide +kernel) ?_
  refine lv_icmp_lt (tgt := 24) hx hb dX1_rules_15 (by decide) (fun c_15 => False.elim (h3 c_15)) (fun c_15 => ?_)
  refine lv_iload_n hx hb dX1_rules_18 rfl (lv_at hl 2 rfl) ?_
  refine lv_bipush (v := nI 9) hx hb dX1_rules_19 (by decide +kernel) ?_
  refine lv_icmp_le (tgt := 26) hx hb dX1_rules_21 (by decide) (fun c_21 => ?_) (fun c_21 => False.elim (c_21 (tw_le_of h4)))
  refine lv_iload_n hx hb dX1_rules_26 rfl (lv_at hl 3 rfl) ?_
  refine lv_if_lt (tgt := 48) hx hb dX1_rules_27 (by decide) (fun c_27 => False.elim (h5 c_27)) (fun c_27 => ?_)
  refine lv_iload_n hx hb dX1_rules_30 rfl (lv_at hl 3 rfl) ?_
  refine lv_bipush (v := nI 9) hx hb dX1_rules_31 (by decide +kernel) ?_
  refine lv_icmp_gt (tgt := 48) hx hb dX1_rules_33 (by decide) (fun c_33 => False.elim (h6 c_33)) (fun c_33 => ?_)
  refine lv_iload hx hb dX1_rules_36 (lv_at hl 4 rfl) ?_
  refine lv_if_lt (tgt := 48) hx hb dX1_rules_38 (by decide) (fun c_38 => False.elim (h7 c_38)) (fun c_38 => ?_)
  refine lv_iload hx hb dX1_rules_41 (lv_at hl 4 rfl) ?_
  refine lv_bipush (v := nI 9) hx hb dX1_rules_43 (by decide +kernel) ?_
  refine lv_icmp_le (tgt := 50) hx hb dX1_rules_45 (by decide) (fun c_45 => ?_) (fun c_45 => False.elim (c_45 (tw_le_of h8)))
  refine lv_aload_n hx hb dX1_rules_50 rfl (lv_at hl 0 rfl) ?_
  refine lv_iload_n hx hb dX1_rules_51 rfl (lv_at hl 1 rfl) ?_
  refine va_put (D := D) (ci := 1) (v := .int a) (ty := .int) (C := RX1) (T := TX1) (N := 8) hx hb hts in_X1 tyX1 tyX1_ok nmX1 hown hK hP hD hS 0 rfl rfl 2 (by decide) (hts _ q171) (fun _ h9 => h9) rfl (by decide +kernel) rfl rfl (Nat.le_of_ble_eq_true rfl) dX1_rules_52 (fun H locs hP hD hS => ?_)
  have hP : va_P D vwCl (mw q d lt cn a gu op le sc ct) H := hP
  have hD : va_D A (mw q d lt cn a gu op le sc ct) := hD
  refine lv_aload_n hx hb dX1_rules_55 rfl (lv_at hl 0 rfl) ?_
  refine lv_iload_n hx hb dX1_rules_56 rfl (lv_at hl 2 rfl) ?_
  refine va_put (D := D) (ci := 1) (v := .int b) (ty := .int) (C := RX1) (T := TX1) (N := 8) hx hb hts in_X1 tyX1 tyX1_ok nmX1 hown hK hP hD hS 0 rfl rfl 3 (by decide) (hts _ q172) (fun _ h9 => h9) rfl (by decide +kernel) rfl rfl (Nat.le_of_ble_eq_true rfl) dX1_rules_57 (fun H locs hP hD hS => ?_)
  have hP : va_P D vwCl (mw q d lt cn a b op le sc ct) H := hP
  have hD : va_D A (mw q d lt cn a b op le sc ct) := hD
  refine lv_aload_n hx hb dX1_rules_60 rfl (lv_at hl 0 rfl) ?_
  refine lv_iload_n hx hb dX1_rules_61 rfl (lv_at hl 3 rfl) ?_
  refine va_put (D := D) (ci := 1) (v := .int o) (ty := .int) (C := RX1) (T := TX1) (N := 8) hx hb hts in_X1 tyX1 tyX1_ok nmX1 hown hK hP hD hS 0 rfl rfl 4 (by decide) (hts _ q173) (fun _ h9 => h9) rfl (by decide +kernel) rfl rfl (Nat.le_of_ble_eq_true rfl) dX1_rules_62 (fun H locs hP hD hS => ?_)
  have hP : va_P D vwCl (mw q d lt cn a b o le sc ct) H := hP
  have hD : va_D A (mw q d lt cn a b o le sc ct) := hD
  refine lv_aload_n hx hb dX1_rules_65 rfl (lv_at hl 0 rfl) ?_
  refine lv_iload hx hb dX1_rules_66 (lv_at hl 4 rfl) ?_
  refine va_put (D := D) (ci := 1) (v := .int t) (ty := .int) (C := RX1) (T := TX1) (N := 8) hx hb hts in_X1 tyX1 tyX1_ok nmX1 hown hK hP hD hS 0 rfl rfl 5 (by decide) (hts _ q174) (fun _ h9 => h9) rfl (by decide +kernel) rfl rfl (Nat.le_of_ble_eq_true rfl) dX1_rules_68 (fun H locs hP hD hS => ?_)
  have hP : va_P D vwCl (mw q d lt cn a b o t sc ct) H := hP
  have hD : va_D A (mw q d lt cn a b o t sc ct) := hD
  refine lv_iconst (v := nI 1) hx hb dX1_rules_71 (by decide +kernel) ?_
  exact tw_zret hx hb hr hlocks (by decide +kernel) hK hP hD hS (rfl) dX1_rules_72
end
end
section
/-! THE TWO CONSTRUCTORS -/
abbrev fX0 : List Value := [.null, .null, .int (nI 0), .int (nI 0), .int (nI 0), .int (nI 0), .null, .null, .null, .int (nI 0), .int (nI 0), .null]
set_option maxHeartbeats 4000000 in
set_option maxRecDepth 100000 in
/-- the constructor of AffineAligner: the object, and its arrays behind it -/
theorem kX0_init (l : Launch) (D : va_G) (h0 sz : Nat) : Met l yX0_init (ws_ yX0_init cX0_init 1 none) ({ frames := 1, cells := 6, slots := 1131, locals := 12 }) (va_Pc [.ref h0] (tw_pre D vwCl [] [(h0, .inr (0, fX0))] sz)) (va_Qv (fun (u : (Nat → Nat) × (Nat → ClassId)) => u.1 0 = h0) (fun u t => va_P D vwCl (xw u.1 u.2 (fun _ => 0) (fun _ => 0) (nI 2) (-1) (nI 2) (nI 1) (fun _ => 0) (fun _ => 0) (fun _ => 0) 0 0 (fun _ => 0)) t.heap ∧ va_K D vwCl (xt u.2) t ∧ va_D (va_A [(h0, .inr (0, fX0))] sz) (xw u.1 u.2 (fun _ => 0) (fun _ => 0) (nI 2) (-1) (nI 2) (nI 1) (fun _ => 0) (fun _ => 0) (fun _ => 0) 0 0 (fun _ => 0))) (va_A [(h0, .inr (0, fX0))] sz)) 6 1131 (va_A [(h0, .inr (0, fX0))] sz) := by
  refine Met.ofW (cc := cX0_init) (maxL := 1) (ret := none) (by decide +kernel) rfl ?_
  intro p e s m args below meth c s₁ B hml hv
  obtain ⟨rfl, hsz, hP, hK, hD0⟩ := hv
  have hx := B.exec
  have hb := B.bytes
  have hr := B.returns
  have hts := atoms_spec (ws := ws_ yX0_init cX0_init 1 none) B.pre
  have hts : ∀ w ∈ lw_all, w.before _ s = true := fun w h => hts w (List.mem_cons_of_mem _ h)
  have hown : s.vm.findClass RX0 = some m.cls := findClass_of_methodNamed B.named
  have hlocks := B.notSynchronized
  have hin : meth.name = "<init>" := (name_of_methodNamed B.named B.method).1
  subst hsz
  have hD := hD0.self (sz := s.heap.size)
  generalize hAe : va_A [(h0, .inr (0, fX0))] s.heap.size = A at hD ⊢
  have hA : ∀ q : Nat, s.heap.size ≤ q → A q := fun q h => by rw [← hAe]; exact Or.inr h
  have hS : va_S A s.heap s.heap [] := va_S.rf
  have hP : va_P D vwCl [(h0, .inr (0, fX0))] s.heap := hP
  have hl := lv_entry ([.ref h0]) (n := 1) (Nat.le_of_ble_eq_true rfl)
  rw [lg_entry_eq]
  generalize (lg_sl ([.ref h0]) ++ List.replicate (1 - (lg_sl ([.ref h0])).length) Slot.unset).toArray = ls at hl ⊢
  have hl : lv_has ls 1 [(0, .ref h0)] := hl
  refine lv_aload_n hx hb dX0_init_0 rfl (lv_at hl 0 rfl) ?_
  refine W.objInit hx hb hown (hts _ q27) (hts _ q28) (hts _ q29) rfl (by rw [hml]; exact hl.1) rfl dX0_init_1 (Nat.le_of_ble_eq_true rfl) (Nat.le_of_ble_eq_true rfl) ?_
  refine W.eq (g2 := F0 m 4 ls []) rfl ?_
  refine lv_aload_n hx hb dX0_init_4 rfl (lv_at hl 0 rfl) ?_
  refine lv_iconst (v := nI 2) hx hb dX0_init_5 (by decide +kernel) ?_
  refine va_newa (atype := .byte) (ty := .byte) (a0 := (2, .inl (fun k => nI ((fun _ => 0) k)))) (N' := 2) hx hb (hts _ q67) rfl hK hP hD hS hA (fun _ => rfl) (by decide +kernel) (by decide +kernel) (by decide) (Nat.le_of_ble_eq_true rfl) (Nat.le_of_ble_eq_true rfl) dX0_init_6 (fun q1_ c1_ H hK hP hD hS => ?_)
  have hP : va_P D vwCl [(h0, .inr (0, [.null, .null, .int (nI 0), .int (nI 0), .int (nI 0), .int (nI 0), .null, .null, .null, .int (nI 0), .int (nI 0), .null])), (q1_, .inl (c1_, 2, .inl (fun k => nI ((fun _ => 0) k))))] H := hP
  have hD : va_D A [(h0, .inr (0, [.null, .null, .int (nI 0), .int (nI 0), .int (nI 0), .int (nI 0), .null, .null, .null, .int (nI 0), .int (nI 0), .null])), (q1_, .inl (c1_, 2, .inl (fun k => nI ((fun _ => 0) k))))] := hD
  have hK : va_K D vwCl [(c1_, .byte)] s := hK
  refine W.widen (k := 1) (n := 2) (Nat.le_of_ble_eq_true rfl) (Nat.le_of_ble_eq_true rfl) ?_
  refine va_putF (D := D) (ci := 0) (v := .ref q1_) (ty := .array .byte) (C := RX0) (T := TX0) (N := 12) hx hb hts in_X0 tyX0 tyX0_ok nmX0 hown hK hP hD hS 0 rfl rfl 0 (by decide) (hts _ q30) (fun _ h9 => h9) rfl hin rfl (by decide +kernel) rfl rfl (Nat.le_of_ble_eq_true rfl) dX0_init_8 (fun H locs hP hD hS => ?_)
  have hP : va_P D vwCl [(h0, .inr (0, [.ref q1_, .null, .int (nI 0), .int (nI 0), .int (nI 0), .int (nI 0), .null, .null, .null, .int (nI 0), .int (nI 0), .null])), (q1_, .inl (c1_, 2, .inl (fun k => nI ((fun _ => 0) k))))] H := hP
  have hD : va_D A [(h0, .inr (0, [.ref q1_, .null, .int (nI 0), .int (nI 0), .int (nI 0), .int (nI 0), .null, .null, .null, .int (nI 0), .int (nI 0), .null])), (q1_, .inl (c1_, 2, .inl (fun k => nI ((fun _ => 0) k))))] := hD
  refine lv_aload_n hx hb dX0_init_11 rfl (lv_at hl 0 rfl) ?_
  refine lv_bipush (v := nI 20) hx hb dX0_init_12 (by decide +kernel) ?_
  refine va_newa (atype := .byte) (ty := .byte) (a0 := (20, .inl (fun _ => 0))) (N' := 20) hx hb (hts _ q67) rfl hK hP hD hS hA (fun _ => rfl) (by decide +kernel) (by decide +kernel) (by decide) (Nat.le_of_ble_eq_true rfl) (Nat.le_of_ble_eq_true rfl) dX0_init_14 (fun q2_ c2_ H hK hP hD hS => ?_)
  have hP : va_P D vwCl [(h0, .inr (0, [.ref q1_, .null, .int (nI 0), .int (nI 0), .int (nI 0), .int (nI 0), .null, .null, .null, .int (nI 0), .int (nI 0), .null])), (q1_, .inl (c1_, 2, .inl (fun k => nI ((fun _ => 0) k)))), (q2_, .inl (c2_, 20, .inl (fun _ => 0)))] H := hP
  have hD : va_D A [(h0, .inr (0, [.ref q1_, .null, .int (nI 0), .int (nI 0), .int (nI 0), .int (nI 0), .null, .null, .null, .int (nI 0), .int (nI 0), .null])), (q1_, .inl (c1_, 2, .inl (fun k => nI ((fun _ => 0) k)))), (q2_, .inl (c2_, 20, .inl (fun _ => 0)))] := hD
  have hK : va_K D vwCl [(c1_, .byte), (c2_, .byte)] s := hK
  refine W.widen (k := 2) (n := 22) (Nat.le_of_ble_eq_true rfl) (Nat.le_of_ble_eq_true rfl) ?_
  refine va_putF (D := D) (ci := 0) (v := .ref q2_) (ty := .array .byte) (C := RX0) (T := TX0) (N := 12) hx hb hts in_X0 tyX0 tyX0_ok nmX0 hown hK hP hD hS 0 rfl rfl 1 (by decide) (hts _ q31) (fun _ h9 => h9) rfl hin rfl (by decide +kernel) rfl rfl (Nat.le_of_ble_eq_true rfl) dX0_init_16 (fun H locs hP hD hS => ?_)
  have hP : va_P D vwCl [(h0, .inr (0, [.ref q1_, .ref q2_, .int (nI 0), .int (nI 0), .int (nI 0), .int (nI 0), .null, .null, .null, .int (nI 0), .int (nI 0), .null])), (q1_, .inl (c1_, 2, .inl (fun k => nI ((fun _ => 0) k)))), (q2_, .inl (c2_, 20, .inl (fun _ => 0)))] H := hP
  have hD : va_D A [(h0, .inr (0, [.ref q1_, .ref q2_, .int (nI 0), .int (nI 0), .int (nI 0), .int (nI 0), .null, .null, .null, .int (nI 0), .int (nI 0), .null])), (q1_, .inl (c1_, 2, .inl (fun k => nI ((fun _ => 0) k)))), (q2_, .inl (c2_, 20, .inl (fun _ => 0)))] := hD
  refine lv_aload_n hx hb dX0_init_19 rfl (lv_at hl 0 rfl) ?_
  refine lv_sipush (v := nI 363) hx hb dX0_init_20 (by decide +kernel) ?_
  refine va_newa (atype := .int) (ty := .int) (a0 := (363, .inl (fun _ => 0))) (N' := 363) hx hb (hts _ q68) rfl hK hP hD hS hA (fun _ => rfl) (by decide +kernel) (by decide +kernel) (by decide) (Nat.le_of_ble_eq_true rfl) (Nat.le_of_ble_eq_true rfl) dX0_init_23 (fun q3_ c3_ H hK hP hD hS => ?_)
  have hP : va_P D vwCl [(h0, .inr (0, [.ref q1_, .ref q2_, .int (nI 0), .int (nI 0), .int (nI 0), .int (nI 0), .null, .null, .null, .int (nI 0), .int (nI 0), .null])), (q1_, .inl (c1_, 2, .inl (fun k => nI ((fun _ => 0) k)))), (q2_, .inl (c2_, 20, .inl (fun _ => 0))), (q3_, .inl (c3_, 363, .inl (fun _ => 0)))] H := hP
  have hD : va_D A [(h0, .inr (0, [.ref q1_, .ref q2_, .int (nI 0), .int (nI 0), .int (nI 0), .int (nI 0), .null, .null, .null, .int (nI 0), .int (nI 0), .null])), (q1_, .inl (c1_, 2, .inl (fun k => nI ((fun _ => 0) k)))), (q2_, .inl (c2_, 20, .inl (fun _ => 0))), (q3_, .inl (c3_, 363, .inl (fun _ => 0)))] := hD
  have hK : va_K D vwCl [(c1_, .byte), (c2_, .byte), (c3_, .int)] s := hK
  refine W.widen (k := 3) (n := 385) (Nat.le_of_ble_eq_true rfl) (Nat.le_of_ble_eq_true rfl) ?_
  refine va_putF (D := D) (ci := 0) (v := .ref q3_) (ty := .array .int) (C := RX0) (T := TX0) (N := 12) hx hb hts in_X0 tyX0 tyX0_ok nmX0 hown hK hP hD hS 0 rfl rfl 6 (by decide) (hts _ q36) (fun _ h9 => h9) rfl hin rfl (by decide +kernel) rfl rfl (Nat.le_of_ble_eq_true rfl) dX0_init_25 (fun H locs hP hD hS => ?_)
  have hP : va_P D vwCl [(h0, .inr (0, [.ref q1_, .ref q2_, .int (nI 0), .int (nI 0), .int (nI 0), .int (nI 0), .ref q3_, .null, .null, .int (nI 0), .int (nI 0), .null])), (q1_, .inl (c1_, 2, .inl (fun k => nI ((fun _ => 0) k)))), (q2_, .inl (c2_, 20, .inl (fun _ => 0))), (q3_, .inl (c3_, 363, .inl (fun _ => 0)))] H := hP
  have hD : va_D A [(h0, .inr (0, [.ref q1_, .ref q2_, .int (nI 0), .int (nI 0), .int (nI 0), .int (nI 0), .ref q3_, .null, .null, .int (nI 0), .int (nI 0), .null])), (q1_, .inl (c1_, 2, .inl (fun k => nI ((fun _ => 0) k)))), (q2_, .inl (c2_, 20, .inl (fun _ => 0))), (q3_, .inl (c3_, 363, .inl (fun _ => 0)))] := hD
  refine lv_aload_n hx hb dX0_init_28 rfl (lv_at hl 0 rfl) ?_
  refine lv_sipush (v := nI 363) hx hb dX0_init_29 (by decide +kernel) ?_
  refine va_newa (atype := .int) (ty := .int) (a0 := (363, .inl (fun _ => 0))) (N' := 363) hx hb (hts _ q68) rfl hK hP hD hS hA (fun _ => rfl) (by decide +kernel) (by decide +kernel) (by decide) (Nat.le_of_ble_eq_true rfl) (Nat.le_of_ble_eq_true rfl) dX0_init_32 (fun q4_ c4_ H hK hP hD hS => ?_)
  have hP : va_P D vwCl [(h0, .inr (0, [.ref q1_, .ref q2_, .int (nI 0), .int (nI 0), .int (nI 0), .int (nI 0), .ref q3_, .null, .null, .int (nI 0), .int (nI 0), .null])), (q1_, .inl (c1_, 2, .inl (fun k => nI ((fun _ => 0) k)))), (q2_, .inl (c2_, 20, .inl (fun _ => 0))), (q3_, .inl (c3_, 363, .inl (fun _ => 0))), (q4_, .inl (c4_, 363, .inl (fun _ => 0)))] H := hP
  have hD : va_D A [(h0, .inr (0, [.ref q1_, .ref q2_, .int (nI 0), .int (nI 0), .int (nI 0), .int (nI 0), .ref q3_, .null, .null, .int (nI 0), .int (nI 0), .null])), (q1_, .inl (c1_, 2, .inl (fun k => nI ((fun _ => 0) k)))), (q2_, .inl (c2_, 20, .inl (fun _ => 0))), (q3_, .inl (c3_, 363, .inl (fun _ => 0))), (q4_, .inl (c4_, 363, .inl (fun _ => 0)))] := hD
  have hK : va_K D vwCl [(c1_, .byte), (c2_, .byte), (c3_, .int), (c4_, .int)] s := hK
  refine W.widen (k := 4) (n := 748) (Nat.le_of_ble_eq_true rfl) (Nat.le_of_ble_eq_true rfl) ?_
  refine va_putF (D := D) (ci := 0) (v := .ref q4_) (ty := .array .int) (C := RX0) (T := TX0) (N := 12) hx hb hts in_X0 tyX0 tyX0_ok nmX0 hown hK hP hD hS 0 rfl rfl 7 (by decide) (hts _ q37) (fun _ h9 => h9) rfl hin rfl (by decide +kernel) rfl rfl (Nat.le_of_ble_eq_true rfl) dX0_init_34 (fun H locs hP hD hS => ?_)
  have hP : va_P D vwCl [(h0, .inr (0, [.ref q1_, .ref q2_, .int (nI 0), .int (nI 0), .int (nI 0), .int (nI 0), .ref q3_, .ref q4_, .null, .int (nI 0), .int (nI 0), .null])), (q1_, .inl (c1_, 2, .inl (fun k => nI ((fun _ => 0) k)))), (q2_, .inl (c2_, 20, .inl (fun _ => 0))), (q3_, .inl (c3_, 363, .inl (fun _ => 0))), (q4_, .inl (c4_, 363, .inl (fun _ => 0)))] H := hP
  have hD : va_D A [(h0, .inr (0, [.ref q1_, .ref q2_, .int (nI 0), .int (nI 0), .int (nI 0), .int (nI 0), .ref q3_, .ref q4_, .null, .int (nI 0), .int (nI 0), .null])), (q1_, .inl (c1_, 2, .inl (fun k => nI ((fun _ => 0) k)))), (q2_, .inl (c2_, 20, .inl (fun _ => 0))), (q3_, .inl (c3_, 363, .inl (fun _ => 0))), (q4_, .inl (c4_, 363, .inl (fun _ => 0)))] := hD
  refine lv_aload_n hx hb dX0_init_37 rfl (lv_at hl 0 rfl) ?_
  refine lv_sipush (v := nI 363) hx hb dX0_init_38 (by decide +kernel) ?_
  refine va_newa (atype := .int) (ty := .int) (a0 := (363, .inl (fun _ => 0))) (N' := 363) hx hb (hts _ q68) rfl hK hP hD hS hA (fun _ => rfl) (by decide +kernel) (by decide +kernel) (by decide) (Nat.le_of_ble_eq_true rfl) (Nat.le_of_ble_eq_true rfl) dX0_init_41 (fun q5_ c5_ H hK hP hD hS => ?_)
  have hP : va_P D vwCl [(h0, .inr (0, [.ref q1_, .ref q2_, .int (nI 0), .int (nI 0), .int (nI 0), .int (nI 0), .ref q3_, .ref q4_, .null, .int (nI 0), .int (nI 0), .null])), (q1_, .inl (c1_, 2, .inl (fun k => nI ((fun _ => 0) k)))), (q2_, .inl (c2_, 20, .inl (fun _ => 0))), (q3_, .inl (c3_, 363, .inl (fun _ => 0))), (q4_, .inl (c4_, 363, .inl (fun _ => 0))), (q5_, .inl (c5_, 363, .inl (fun _ => 0)))] H := hP
  have hD : va_D A [(h0, .inr (0, [.ref q1_, .ref q2_, .int (nI 0), .int (nI 0), .int (nI 0), .int (nI 0), .ref q3_, .ref q4_, .null, .int (nI 0), .int (nI 0), .null])), (q1_, .inl (c1_, 2, .inl (fun k => nI ((fun _ => 0) k)))), (q2_, .inl (c2_, 20, .inl (fun _ => 0))), (q3_, .inl (c3_, 363, .inl (fun _ => 0))), (q4_, .inl (c4_, 363, .inl (fun _ => 0))), (q5_, .inl (c5_, 363, .inl (fun _ => 0)))] := hD
  have hK : va_K D vwCl [(c1_, .byte), (c2_, .byte), (c3_, .int), (c4_, .int), (c5_, .int)] s := hK
  refine W.widen (k := 5) (n := 1111) (Nat.le_of_ble_eq_true rfl) (Nat.le_of_ble_eq_true rfl) ?_
  refine va_putF (D := D) (ci := 0) (v := .ref q5_) (ty := .array .int) (C := RX0) (T := TX0) (N := 12) hx hb hts in_X0 tyX0 tyX0_ok nmX0 hown hK hP hD hS 0 rfl rfl 8 (by decide) (hts _ q38) (fun _ h9 => h9) rfl hin rfl (by decide +kernel) rfl rfl (Nat.le_of_ble_eq_true rfl) dX0_init_43 (fun H locs hP hD hS => ?_)
  have hP : va_P D vwCl [(h0, .inr (0, [.ref q1_, .ref q2_, .int (nI 0), .int (nI 0), .int (nI 0), .int (nI 0), .ref q3_, .ref q4_, .ref q5_, .int (nI 0), .int (nI 0), .null])), (q1_, .inl (c1_, 2, .inl (fun k => nI ((fun _ => 0) k)))), (q2_, .inl (c2_, 20, .inl (fun _ => 0))), (q3_, .inl (c3_, 363, .inl (fun _ => 0))), (q4_, .inl (c4_, 363, .inl (fun _ => 0))), (q5_, .inl (c5_, 363, .inl (fun _ => 0)))] H := hP
  have hD : va_D A [(h0, .inr (0, [.ref q1_, .ref q2_, .int (nI 0), .int (nI 0), .int (nI 0), .int (nI 0), .ref q3_, .ref q4_, .ref q5_, .int (nI 0), .int (nI 0), .null])), (q1_, .inl (c1_, 2, .inl (fun k => nI ((fun _ => 0) k)))), (q2_, .inl (c2_, 20, .inl (fun _ => 0))), (q3_, .inl (c3_, 363, .inl (fun _ => 0))), (q4_, .inl (c4_, 363, .inl (fun _ => 0))), (q5_, .inl (c5_, 363, .inl (fun _ => 0)))] := hD
  refine lv_aload_n hx hb dX0_init_46 rfl (lv_at hl 0 rfl) ?_
  refine lv_bipush (v := nI 20) hx hb dX0_init_47 (by decide +kernel) ?_
  refine va_newa (atype := .byte) (ty := .byte) (a0 := (20, .inl (fun _ => 0))) (N' := 20) hx hb (hts _ q67) rfl hK hP hD hS hA (fun _ => rfl) (by decide +kernel) (by decide +kernel) (by decide) (Nat.le_of_ble_eq_true rfl) (Nat.le_of_ble_eq_true rfl) dX0_init_49 (fun q6_ c6_ H hK hP hD hS => ?_)
  have hP : va_P D vwCl [(h0, .inr (0, [.ref q1_, .ref q2_, .int (nI 0), .int (nI 0), .int (nI 0), .int (nI 0), .ref q3_, .ref q4_, .ref q5_, .int (nI 0), .int (nI 0), .null])), (q1_, .inl (c1_, 2, .inl (fun k => nI ((fun _ => 0) k)))), (q2_, .inl (c2_, 20, .inl (fun _ => 0))), (q3_, .inl (c3_, 363, .inl (fun _ => 0))), (q4_, .inl (c4_, 363, .inl (fun _ => 0))), (q5_, .inl (c5_, 363, .inl (fun _ => 0))), (q6_, .inl (c6_, 20, .inl (fun _ => 0)))] H := hP
  have hD : va_D A [(h0, .inr (0, [.ref q1_, .ref q2_, .int (nI 0), .int (nI 0), .int (nI 0), .int (nI 0), .ref q3_, .ref q4_, .ref q5_, .int (nI 0), .int (nI 0), .null])), (q1_, .inl (c1_, 2, .inl (fun k => nI ((fun _ => 0) k)))), (q2_, .inl (c2_, 20, .inl (fun _ => 0))), (q3_, .inl (c3_, 363, .inl (fun _ => 0))), (q4_, .inl (c4_, 363, .inl (fun _ => 0))), (q5_, .inl (c5_, 363, .inl (fun _ => 0))), (q6_, .inl (c6_, 20, .inl (fun _ => 0)))] := hD
  have hK : va_K D vwCl [(c1_, .byte), (c2_, .byte), (c3_, .int), (c4_, .int), (c5_, .int), (c6_, .byte)] s := hK
  refine W.widen (k := 6) (n := 1131) (Nat.le_of_ble_eq_true rfl) (Nat.le_of_ble_eq_true rfl) ?_
  refine va_putF (D := D) (ci := 0) (v := .ref q6_) (ty := .array .byte) (C := RX0) (T := TX0) (N := 12) hx hb hts in_X0 tyX0 tyX0_ok nmX0 hown hK hP hD hS 0 rfl rfl 11 (by decide) (hts _ q41) (fun _ h9 => h9) rfl hin rfl (by decide +kernel) rfl rfl (Nat.le_of_ble_eq_true rfl) dX0_init_51 (fun H locs hP hD hS => ?_)
  have hP : va_P D vwCl [(h0, .inr (0, [.ref q1_, .ref q2_, .int (nI 0), .int (nI 0), .int (nI 0), .int (nI 0), .ref q3_, .ref q4_, .ref q5_, .int (nI 0), .int (nI 0), .ref q6_])), (q1_, .inl (c1_, 2, .inl (fun k => nI ((fun _ => 0) k)))), (q2_, .inl (c2_, 20, .inl (fun _ => 0))), (q3_, .inl (c3_, 363, .inl (fun _ => 0))), (q4_, .inl (c4_, 363, .inl (fun _ => 0))), (q5_, .inl (c5_, 363, .inl (fun _ => 0))), (q6_, .inl (c6_, 20, .inl (fun _ => 0)))] H := hP
  have hD : va_D A [(h0, .inr (0, [.ref q1_, .ref q2_, .int (nI 0), .int (nI 0), .int (nI 0), .int (nI 0), .ref q3_, .ref q4_, .ref q5_, .int (nI 0), .int (nI 0), .ref q6_])), (q1_, .inl (c1_, 2, .inl (fun k => nI ((fun _ => 0) k)))), (q2_, .inl (c2_, 20, .inl (fun _ => 0))), (q3_, .inl (c3_, 363, .inl (fun _ => 0))), (q4_, .inl (c4_, 363, .inl (fun _ => 0))), (q5_, .inl (c5_, 363, .inl (fun _ => 0))), (q6_, .inl (c6_, 20, .inl (fun _ => 0)))] := hD
  refine lv_aload_n hx hb dX0_init_54 rfl (lv_at hl 0 rfl) ?_
  refine lv_iconst (v := nI 2) hx hb dX0_init_55 (by decide +kernel) ?_
  refine va_put (D := D) (ci := 0) (v := .int (nI 2)) (ty := .int) (C := RX0) (T := TX0) (N := 12) hx hb hts in_X0 tyX0 tyX0_ok nmX0 hown hK hP hD hS 0 rfl rfl 2 (by decide) (hts _ q32) (fun _ h9 => h9) rfl (by decide +kernel) rfl rfl (Nat.le_of_ble_eq_true rfl) dX0_init_56 (fun H locs hP hD hS => ?_)
  have hP : va_P D vwCl [(h0, .inr (0, [.ref q1_, .ref q2_, .int (nI 2), .int (nI 0), .int (nI 0), .int (nI 0), .ref q3_, .ref q4_, .ref q5_, .int (nI 0), .int (nI 0), .ref q6_])), (q1_, .inl (c1_, 2, .inl (fun k => nI ((fun _ => 0) k)))), (q2_, .inl (c2_, 20, .inl (fun _ => 0))), (q3_, .inl (c3_, 363, .inl (fun _ => 0))), (q4_, .inl (c4_, 363, .inl (fun _ => 0))), (q5_, .inl (c5_, 363, .inl (fun _ => 0))), (q6_, .inl (c6_, 20, .inl (fun _ => 0)))] H := hP
  have hD : va_D A [(h0, .inr (0, [.ref q1_, .ref q2_, .int (nI 2), .int (nI 0), .int (nI 0), .int (nI 0), .ref q3_, .ref q4_, .ref q5_, .int (nI 0), .int (nI 0), .ref q6_])), (q1_, .inl (c1_, 2, .inl (fun k => nI ((fun _ => 0) k)))), (q2_, .inl (c2_, 20, .inl (fun _ => 0))), (q3_, .inl (c3_, 363, .inl (fun _ => 0))), (q4_, .inl (c4_, 363, .inl (fun _ => 0))), (q5_, .inl (c5_, 363, .inl (fun _ => 0))), (q6_, .inl (c6_, 20, .inl (fun _ => 0)))] := hD
  refine lv_aload_n hx hb dX0_init_59 rfl (lv_at hl 0 rfl) ?_
  refine lv_iconst (v := -1) hx hb dX0_init_60 (by decide +kernel) ?_
  refine va_put (D := D) (ci := 0) (v := .int (-1)) (ty := .int) (C := RX0) (T := TX0) (N := 12) hx hb hts in_X0 tyX0 tyX0_ok nmX0 hown hK hP hD hS 0 rfl rfl 3 (by decide) (hts _ q33) (fun _ h9 => h9) rfl (by decide +kernel) rfl rfl (Nat.le_of_ble_eq_true rfl) dX0_init_61 (fun H locs hP hD hS => ?_)
  have hP : va_P D vwCl [(h0, .inr (0, [.ref q1_, .ref q2_, .int (nI 2), .int (-1), .int (nI 0), .int (nI 0), .ref q3_, .ref q4_, .ref q5_, .int (nI 0), .int (nI 0), .ref q6_])), (q1_, .inl (c1_, 2, .inl (fun k => nI ((fun _ => 0) k)))), (q2_, .inl (c2_, 20, .inl (fun _ => 0))), (q3_, .inl (c3_, 363, .inl (fun _ => 0))), (q4_, .inl (c4_, 363, .inl (fun _ => 0))), (q5_, .inl (c5_, 363, .inl (fun _ => 0))), (q6_, .inl (c6_, 20, .inl (fun _ => 0)))] H := hP
  have hD : va_D A [(h0, .inr (0, [.ref q1_, .ref q2_, .int (nI 2), .int (-1), .int (nI 0), .int (nI 0), .ref q3_, .ref q4_, .ref q5_, .int (nI 0), .int (nI 0), .ref q6_])), (q1_, .inl (c1_, 2, .inl (fun k => nI ((fun _ => 0) k)))), (q2_, .inl (c2_, 20, .inl (fun _ => 0))), (q3_, .inl (c3_, 363, .inl (fun _ => 0))), (q4_, .inl (c4_, 363, .inl (fun _ => 0))), (q5_, .inl (c5_, 363, .inl (fun _ => 0))), (q6_, .inl (c6_, 20, .inl (fun _ => 0)))] := hD
  refine lv_aload_n hx hb dX0_init_64 rfl (lv_at hl 0 rfl) ?_
  refine lv_iconst (v := nI 2) hx hb dX0_init_65 (by decide +kernel) ?_
  refine va_put (D := D) (ci := 0) (v := .int (nI 2)) (ty := .int) (C := RX0) (T := TX0) (N := 12) hx hb hts in_X0 tyX0 tyX0_ok nmX0 hown hK hP hD hS 0 rfl rfl 4 (by decide) (hts _ q34) (fun _ h9 => h9) rfl (by decide +kernel) rfl rfl (Nat.le_of_ble_eq_true rfl) dX0_init_66 (fun H locs hP hD hS => ?_)
  have hP : va_P D vwCl [(h0, .inr (0, [.ref q1_, .ref q2_, .int (nI 2), .int (-1), .int (nI 2), .int (nI 0), .ref q3_, .ref q4_, .ref q5_, .int (nI 0), .int (nI 0), .ref q6_])), (q1_, .inl (c1_, 2, .inl (fun k => nI ((fun _ => 0) k)))), (q2_, .inl (c2_, 20, .inl (fun _ => 0))), (q3_, .inl (c3_, 363, .inl (fun _ => 0))), (q4_, .inl (c4_, 363, .inl (fun _ => 0))), (q5_, .inl (c5_, 363, .inl (fun _ => 0))), (q6_, .inl (c6_, 20, .inl (fun _ => 0)))] H := hP
  have hD : va_D A [(h0, .inr (0, [.ref q1_, .ref q2_, .int (nI 2), .int (-1), .int (nI 2), .int (nI 0), .ref q3_, .ref q4_, .ref q5_, .int (nI 0), .int (nI 0), .ref q6_])), (q1_, .inl (c1_, 2, .inl (fun k => nI ((fun _ => 0) k)))), (q2_, .inl (c2_, 20, .inl (fun _ => 0))), (q3_, .inl (c3_, 363, .inl (fun _ => 0))), (q4_, .inl (c4_, 363, .inl (fun _ => 0))), (q5_, .inl (c5_, 363, .inl (fun _ => 0))), (q6_, .inl (c6_, 20, .inl (fun _ => 0)))] := hD
  refine lv_aload_n hx hb dX0_init_69 rfl (lv_at hl 0 rfl) ?_
  refine lv_iconst (v := nI 1) hx hb dX0_init_70 (by decide +kernel) ?_
  refine va_put (D := D) (ci := 0) (v := .int (nI 1)) (ty := .int) (C := RX0) (T := TX0) (N := 12) hx hb hts in_X0 tyX0 tyX0_ok nmX0 hown hK hP hD hS 0 rfl rfl 5 (by decide) (hts _ q35) (fun _ h9 => h9) rfl (by decide +kernel) rfl rfl (Nat.le_of_ble_eq_true rfl) dX0_init_71 (fun H locs hP hD hS => ?_)
  have hP : va_P D vwCl [(h0, .inr (0, [.ref q1_, .ref q2_, .int (nI 2), .int (-1), .int (nI 2), .int (nI 1), .ref q3_, .ref q4_, .ref q5_, .int (nI 0), .int (nI 0), .ref q6_])), (q1_, .inl (c1_, 2, .inl (fun k => nI ((fun _ => 0) k)))), (q2_, .inl (c2_, 20, .inl (fun _ => 0))), (q3_, .inl (c3_, 363, .inl (fun _ => 0))), (q4_, .inl (c4_, 363, .inl (fun _ => 0))), (q5_, .inl (c5_, 363, .inl (fun _ => 0))), (q6_, .inl (c6_, 20, .inl (fun _ => 0)))] H := hP
  have hD : va_D A [(h0, .inr (0, [.ref q1_, .ref q2_, .int (nI 2), .int (-1), .int (nI 2), .int (nI 1), .ref q3_, .ref q4_, .ref q5_, .int (nI 0), .int (nI 0), .ref q6_])), (q1_, .inl (c1_, 2, .inl (fun k => nI ((fun _ => 0) k)))), (q2_, .inl (c2_, 20, .inl (fun _ => 0))), (q3_, .inl (c3_, 363, .inl (fun _ => 0))), (q4_, .inl (c4_, 363, .inl (fun _ => 0))), (q5_, .inl (c5_, 363, .inl (fun _ => 0))), (q6_, .inl (c6_, 20, .inl (fun _ => 0)))] := hD
  exact W.vret hx hb hr (fun t ht hW => ⟨⟨((fun k => match k with | 0 => h0 | 1 => q1_ | 2 => q2_ | 3 => q3_ | 4 => q4_ | 5 => q5_ | _ => q6_), (fun k => match k with | 1 => c1_ | 2 => c2_ | 3 => c3_ | 4 => c4_ | 5 => c5_ | _ => c6_)), rfl, rfl, by rw [ht]; exact hP, va_K.moved hW.alike hK, hD⟩, hS.F ht⟩) hS.2.2 dX0_init_74
abbrev fX1 : List Value := [.null, .null, .int (nI 0), .int (nI 0), .int (nI 0), .int (nI 0), .null, .null]
set_option maxHeartbeats 4000000 in
set_option maxRecDepth 100000 in
/-- the constructor of AffineAlignerModel: the object, and its arrays behind it -/
theorem kX1_init (l : Launch) (D : va_G) (h0 sz : Nat) : Met l yX1_init (ws_ yX1_init cX1_init 1 none) ({ frames := 1, cells := 4, slots := 748, locals := 12 }) (va_Pc [.ref h0] (tw_pre D vwCl [] [(h0, .inr (1, fX1))] sz)) (va_Qv (fun (u : (Nat → Nat) × (Nat → ClassId)) => u.1 0 = h0) (fun u t => va_P D vwCl (mw u.1 u.2 (fun _ => 0) (fun _ => 0) (nI 2) (-1) (nI 2) (nI 1) (fun _ => 0) (fun _ => 0)) t.heap ∧ va_K D vwCl (mt u.2) t ∧ va_D (va_A [(h0, .inr (1, fX1))] sz) (mw u.1 u.2 (fun _ => 0) (fun _ => 0) (nI 2) (-1) (nI 2) (nI 1) (fun _ => 0) (fun _ => 0))) (va_A [(h0, .inr (1, fX1))] sz)) 4 748 (va_A [(h0, .inr (1, fX1))] sz) := by
  refine Met.ofW (cc := cX1_init) (maxL := 1) (ret := none) (by decide +kernel) rfl ?_
  intro p e s m args below meth c s₁ B hml hv
  obtain ⟨rfl, hsz, hP, hK, hD0⟩ := hv
  have hx := B.exec
  have hb := B.bytes
  have hr := B.returns
  have hts := atoms_spec (ws := ws_ yX1_init cX1_init 1 none) B.pre
  have hts : ∀ w ∈ lw_all, w.before _ s = true := fun w h => hts w (List.mem_cons_of_mem _ h)
  have hown : s.vm.findClass RX1 = some m.cls := findClass_of_methodNamed B.named
  have hlocks := B.notSynchronized
  have hin : meth.name = "<init>" := (name_of_methodNamed B.named B.method).1
  subst hsz
  have hD := hD0.self (sz := s.heap.size)
  generalize hAe : va_A [(h0, .inr (1, fX1))] s.heap.size = A at hD ⊢
  have hA : ∀ q : Nat, s.heap.size ≤ q → A q := fun q h => by rw [← hAe]; exact Or.inr h
  have hS : va_S A s.heap s.heap [] := va_S.rf
  have hP : va_P D vwCl [(h0, .inr (1, fX1))] s.heap := hP
  have hl := lv_entry ([.ref h0]) (n := 1) (Nat.le_of_ble_eq_true rfl)
  rw [lg_entry_eq]
  generalize (lg_sl ([.ref h0]) ++ List.replicate (1 - (lg_sl ([.ref h0])).length) Slot.unset).toArray = ls at hl ⊢
  have hl : lv_has ls 1 [(0, .ref h0)] := hl
  refine lv_aload_n hx hb dX1_init_0 rfl (lv_at hl 0 rfl) ?_
  refine W.objInit hx hb hown (hts _ q168) (hts _ q28) (hts _ q29) rfl (by rw [hml]; exact hl.1) rfl dX1_init_1 (Nat.le_of_ble_eq_true rfl) (Nat.le_of_ble_eq_true rfl) ?_
  refine W.eq (g2 := F0 m 4 ls []) rfl ?_
  refine lv_aload_n hx hb dX1_init_4 rfl (lv_at hl 0 rfl) ?_
  refine lv_bipush (v := nI 20) hx hb dX1_init_5 (by decide +kernel) ?_
  refine va_newa (atype := .int) (ty := .int) (a0 := (20, .inl (fun _ => 0))) (N' := 20) hx hb (hts _ q68) rfl hK hP hD hS hA (fun _ => rfl) (by decide +kernel) (by decide +kernel) (by decide) (Nat.le_of_ble_eq_true rfl) (Nat.le_of_ble_eq_true rfl) dX1_init_7 (fun q1_ c1_ H hK hP hD hS => ?_)
  have hP : va_P D vwCl [(h0, .inr (1, [.null, .null, .int (nI 0), .int (nI 0), .int (nI 0), .int (nI 0), .null, .null])), (q1_, .inl (c1_, 20, .inl (fun _ => 0)))] H := hP
  have hD : va_D A [(h0, .inr (1, [.null, .null, .int (nI 0), .int (nI 0), .int (nI 0), .int (nI 0), .null, .null])), (q1_, .inl (c1_, 20, .inl (fun _ => 0)))] := hD
  have hK : va_K D vwCl [(c1_, .int)] s := hK
  refine W.widen (k := 1) (n := 20) (Nat.le_of_ble_eq_true rfl) (Nat.le_of_ble_eq_true rfl) ?_
  refine va_putF (D := D) (ci := 1) (v := .ref q1_) (ty := .array .int) (C := RX1) (T := TX1) (N := 8) hx hb hts in_X1 tyX1 tyX1_ok nmX1 hown hK hP hD hS 0 rfl rfl 0 (by decide) (hts _ q169) (fun _ h9 => h9) rfl hin rfl (by decide +kernel) rfl rfl (Nat.le_of_ble_eq_true rfl) dX1_init_9 (fun H locs hP hD hS => ?_)
  have hP : va_P D vwCl [(h0, .inr (1, [.ref q1_, .null, .int (nI 0), .int (nI 0), .int (nI 0), .int (nI 0), .null, .null])), (q1_, .inl (c1_, 20, .inl (fun _ => 0)))] H := hP
  have hD : va_D A [(h0, .inr (1, [.ref q1_, .null, .int (nI 0), .int (nI 0), .int (nI 0), .int (nI 0), .null, .null])), (q1_, .inl (c1_, 20, .inl (fun _ => 0)))] := hD
  refine lv_aload_n hx hb dX1_init_12 rfl (lv_at hl 0 rfl) ?_
  refine lv_iconst (v := nI 2) hx hb dX1_init_13 (by decide +kernel) ?_
  refine va_newa (atype := .int) (ty := .int) (a0 := (2, .inl (fun k => nI ((fun _ => 0) k)))) (N' := 2) hx hb (hts _ q68) rfl hK hP hD hS hA (fun _ => rfl) (by decide +kernel) (by decide +kernel) (by decide) (Nat.le_of_ble_eq_true rfl) (Nat.le_of_ble_eq_true rfl) dX1_init_14 (fun q2_ c2_ H hK hP hD hS => ?_)
  have hP : va_P D vwCl [(h0, .inr (1, [.ref q1_, .null, .int (nI 0), .int (nI 0), .int (nI 0), .int (nI 0), .null, .null])), (q1_, .inl (c1_, 20, .inl (fun _ => 0))), (q2_, .inl (c2_, 2, .inl (fun k => nI ((fun _ => 0) k))))] H := hP
  have hD : va_D A [(h0, .inr (1, [.ref q1_, .null, .int (nI 0), .int (nI 0), .int (nI 0), .int (nI 0), .null, .null])), (q1_, .inl (c1_, 20, .inl (fun _ => 0))), (q2_, .inl (c2_, 2, .inl (fun k => nI ((fun _ => 0) k))))] := hD
  have hK : va_K D vwCl [(c1_, .int), (c2_, .int)] s := hK
  refine W.widen (k := 2) (n := 22) (Nat.le_of_ble_eq_true rfl) (Nat.le_of_ble_eq_true rfl) ?_
  refine va_putF (D := D) (ci := 1) (v := .ref q2_) (ty := .array .int) (C := RX1) (T := TX1) (N := 8) hx hb hts in_X1 tyX1 tyX1_ok nmX1 hown hK hP hD hS 0 rfl rfl 1 (by decide) (hts _ q170) (fun _ h9 => h9) rfl hin rfl (by decide +kernel) rfl rfl (Nat.le_of_ble_eq_true rfl) dX1_init_16 (fun H locs hP hD hS => ?_)
  have hP : va_P D vwCl [(h0, .inr (1, [.ref q1_, .ref q2_, .int (nI 0), .int (nI 0), .int (nI 0), .int (nI 0), .null, .null])), (q1_, .inl (c1_, 20, .inl (fun _ => 0))), (q2_, .inl (c2_, 2, .inl (fun k => nI ((fun _ => 0) k))))] H := hP
  have hD : va_D A [(h0, .inr (1, [.ref q1_, .ref q2_, .int (nI 0), .int (nI 0), .int (nI 0), .int (nI 0), .null, .null])), (q1_, .inl (c1_, 20, .inl (fun _ => 0))), (q2_, .inl (c2_, 2, .inl (fun k => nI ((fun _ => 0) k))))] := hD
  refine lv_aload_n hx hb dX1_init_19 rfl (lv_at hl 0 rfl) ?_
  refine lv_iconst (v := nI 2) hx hb dX1_init_20 (by decide +kernel) ?_
  refine va_put (D := D) (ci := 1) (v := .int (nI 2)) (ty := .int) (C := RX1) (T := TX1) (N := 8) hx hb hts in_X1 tyX1 tyX1_ok nmX1 hown hK hP hD hS 0 rfl rfl 2 (by decide) (hts _ q171) (fun _ h9 => h9) rfl (by decide +kernel) rfl rfl (Nat.le_of_ble_eq_true rfl) dX1_init_21 (fun H locs hP hD hS => ?_)
  have hP : va_P D vwCl [(h0, .inr (1, [.ref q1_, .ref q2_, .int (nI 2), .int (nI 0), .int (nI 0), .int (nI 0), .null, .null])), (q1_, .inl (c1_, 20, .inl (fun _ => 0))), (q2_, .inl (c2_, 2, .inl (fun k => nI ((fun _ => 0) k))))] H := hP
  have hD : va_D A [(h0, .inr (1, [.ref q1_, .ref q2_, .int (nI 2), .int (nI 0), .int (nI 0), .int (nI 0), .null, .null])), (q1_, .inl (c1_, 20, .inl (fun _ => 0))), (q2_, .inl (c2_, 2, .inl (fun k => nI ((fun _ => 0) k))))] := hD
  refine lv_aload_n hx hb dX1_init_24 rfl (lv_at hl 0 rfl) ?_
  refine lv_iconst (v := -1) hx hb dX1_init_25 (by decide +kernel) ?_
  refine va_put (D := D) (ci := 1) (v := .int (-1)) (ty := .int) (C := RX1) (T := TX1) (N := 8) hx hb hts in_X1 tyX1 tyX1_ok nmX1 hown hK hP hD hS 0 rfl rfl 3 (by decide) (hts _ q172) (fun _ h9 => h9) rfl (by decide +kernel) rfl rfl (Nat.le_of_ble_eq_true rfl) dX1_init_26 (fun H locs hP hD hS => ?_)
  have hP : va_P D vwCl [(h0, .inr (1, [.ref q1_, .ref q2_, .int (nI 2), .int (-1), .int (nI 0), .int (nI 0), .null, .null])), (q1_, .inl (c1_, 20, .inl (fun _ => 0))), (q2_, .inl (c2_, 2, .inl (fun k => nI ((fun _ => 0) k))))] H := hP
  have hD : va_D A [(h0, .inr (1, [.ref q1_, .ref q2_, .int (nI 2), .int (-1), .int (nI 0), .int (nI 0), .null, .null])), (q1_, .inl (c1_, 20, .inl (fun _ => 0))), (q2_, .inl (c2_, 2, .inl (fun k => nI ((fun _ => 0) k))))] := hD
  refine lv_aload_n hx hb dX1_init_29 rfl (lv_at hl 0 rfl) ?_
  refine lv_iconst (v := nI 2) hx hb dX1_init_30 (by decide +kernel) ?_
  refine va_put (D := D) (ci := 1) (v := .int (nI 2)) (ty := .int) (C := RX1) (T := TX1) (N := 8) hx hb hts in_X1 tyX1 tyX1_ok nmX1 hown hK hP hD hS 0 rfl rfl 4 (by decide) (hts _ q173) (fun _ h9 => h9) rfl (by decide +kernel) rfl rfl (Nat.le_of_ble_eq_true rfl) dX1_init_31 (fun H locs hP hD hS => ?_)
  have hP : va_P D vwCl [(h0, .inr (1, [.ref q1_, .ref q2_, .int (nI 2), .int (-1), .int (nI 2), .int (nI 0), .null, .null])), (q1_, .inl (c1_, 20, .inl (fun _ => 0))), (q2_, .inl (c2_, 2, .inl (fun k => nI ((fun _ => 0) k))))] H := hP
  have hD : va_D A [(h0, .inr (1, [.ref q1_, .ref q2_, .int (nI 2), .int (-1), .int (nI 2), .int (nI 0), .null, .null])), (q1_, .inl (c1_, 20, .inl (fun _ => 0))), (q2_, .inl (c2_, 2, .inl (fun k => nI ((fun _ => 0) k))))] := hD
  refine lv_aload_n hx hb dX1_init_34 rfl (lv_at hl 0 rfl) ?_
  refine lv_iconst (v := nI 1) hx hb dX1_init_35 (by decide +kernel) ?_
  refine va_put (D := D) (ci := 1) (v := .int (nI 1)) (ty := .int) (C := RX1) (T := TX1) (N := 8) hx hb hts in_X1 tyX1 tyX1_ok nmX1 hown hK hP hD hS 0 rfl rfl 5 (by decide) (hts _ q174) (fun _ h9 => h9) rfl (by decide +kernel) rfl rfl (Nat.le_of_ble_eq_true rfl) dX1_init_36 (fun H locs hP hD hS => ?_)
  have hP : va_P D vwCl [(h0, .inr (1, [.ref q1_, .ref q2_, .int (nI 2), .int (-1), .int (nI 2), .int (nI 1), .null, .null])), (q1_, .inl (c1_, 20, .inl (fun _ => 0))), (q2_, .inl (c2_, 2, .inl (fun k => nI ((fun _ => 0) k))))] H := hP
  have hD : va_D A [(h0, .inr (1, [.ref q1_, .ref q2_, .int (nI 2), .int (-1), .int (nI 2), .int (nI 1), .null, .null])), (q1_, .inl (c1_, 20, .inl (fun _ => 0))), (q2_, .inl (c2_, 2, .inl (fun k => nI ((fun _ => 0) k))))] := hD
  refine lv_aload_n hx hb dX1_init_39 rfl (lv_at hl 0 rfl) ?_
  refine lv_sipush (v := nI 363) hx hb dX1_init_40 (by decide +kernel) ?_
  refine va_newa (atype := .int) (ty := .int) (a0 := (363, .inl (fun _ => 0))) (N' := 363) hx hb (hts _ q68) rfl hK hP hD hS hA (fun _ => rfl) (by decide +kernel) (by decide +kernel) (by decide) (Nat.le_of_ble_eq_true rfl) (Nat.le_of_ble_eq_true rfl) dX1_init_43 (fun q3_ c3_ H hK hP hD hS => ?_)
  have hP : va_P D vwCl [(h0, .inr (1, [.ref q1_, .ref q2_, .int (nI 2), .int (-1), .int (nI 2), .int (nI 1), .null, .null])), (q1_, .inl (c1_, 20, .inl (fun _ => 0))), (q2_, .inl (c2_, 2, .inl (fun k => nI ((fun _ => 0) k)))), (q3_, .inl (c3_, 363, .inl (fun _ => 0)))] H := hP
  have hD : va_D A [(h0, .inr (1, [.ref q1_, .ref q2_, .int (nI 2), .int (-1), .int (nI 2), .int (nI 1), .null, .null])), (q1_, .inl (c1_, 20, .inl (fun _ => 0))), (q2_, .inl (c2_, 2, .inl (fun k => nI ((fun _ => 0) k)))), (q3_, .inl (c3_, 363, .inl (fun _ => 0)))] := hD
  have hK : va_K D vwCl [(c1_, .int), (c2_, .int), (c3_, .int)] s := hK
  refine W.widen (k := 3) (n := 385) (Nat.le_of_ble_eq_true rfl) (Nat.le_of_ble_eq_true rfl) ?_
  refine va_putF (D := D) (ci := 1) (v := .ref q3_) (ty := .array .int) (C := RX1) (T := TX1) (N := 8) hx hb hts in_X1 tyX1 tyX1_ok nmX1 hown hK hP hD hS 0 rfl rfl 6 (by decide) (hts _ q175) (fun _ h9 => h9) rfl hin rfl (by decide +kernel) rfl rfl (Nat.le_of_ble_eq_true rfl) dX1_init_45 (fun H locs hP hD hS => ?_)
  have hP : va_P D vwCl [(h0, .inr (1, [.ref q1_, .ref q2_, .int (nI 2), .int (-1), .int (nI 2), .int (nI 1), .ref q3_, .null])), (q1_, .inl (c1_, 20, .inl (fun _ => 0))), (q2_, .inl (c2_, 2, .inl (fun k => nI ((fun _ => 0) k)))), (q3_, .inl (c3_, 363, .inl (fun _ => 0)))] H := hP
  have hD : va_D A [(h0, .inr (1, [.ref q1_, .ref q2_, .int (nI 2), .int (-1), .int (nI 2), .int (nI 1), .ref q3_, .null])), (q1_, .inl (c1_, 20, .inl (fun _ => 0))), (q2_, .inl (c2_, 2, .inl (fun k => nI ((fun _ => 0) k)))), (q3_, .inl (c3_, 363, .inl (fun _ => 0)))] := hD
  refine lv_aload_n hx hb dX1_init_48 rfl (lv_at hl 0 rfl) ?_
  refine lv_sipush (v := nI 363) hx hb dX1_init_49 (by decide +kernel) ?_
  refine va_newa (atype := .int) (ty := .int) (a0 := (363, .inl (fun _ => 0))) (N' := 363) hx hb (hts _ q68) rfl hK hP hD hS hA (fun _ => rfl) (by decide +kernel) (by decide +kernel) (by decide) (Nat.le_of_ble_eq_true rfl) (Nat.le_of_ble_eq_true rfl) dX1_init_52 (fun q4_ c4_ H hK hP hD hS => ?_)
  have hP : va_P D vwCl [(h0, .inr (1, [.ref q1_, .ref q2_, .int (nI 2), .int (-1), .int (nI 2), .int (nI 1), .ref q3_, .null])), (q1_, .inl (c1_, 20, .inl (fun _ => 0))), (q2_, .inl (c2_, 2, .inl (fun k => nI ((fun _ => 0) k)))), (q3_, .inl (c3_, 363, .inl (fun _ => 0))), (q4_, .inl (c4_, 363, .inl (fun _ => 0)))] H := hP
  have hD : va_D A [(h0, .inr (1, [.ref q1_, .ref q2_, .int (nI 2), .int (-1), .int (nI 2), .int (nI 1), .ref q3_, .null])), (q1_, .inl (c1_, 20, .inl (fun _ => 0))), (q2_, .inl (c2_, 2, .inl (fun k => nI ((fun _ => 0) k)))), (q3_, .inl (c3_, 363, .inl (fun _ => 0))), (q4_, .inl (c4_, 363, .inl (fun _ => 0)))] := hD
  have hK : va_K D vwCl [(c1_, .int), (c2_, .int), (c3_, .int), (c4_, .int)] s := hK
  refine W.widen (k := 4) (n := 748) (Nat.le_of_ble_eq_true rfl) (Nat.le_of_ble_eq_true rfl) ?_
  refine va_putF (D := D) (ci := 1) (v := .ref q4_) (ty := .array .int) (C := RX1) (T := TX1) (N := 8) hx hb hts in_X1 tyX1 tyX1_ok nmX1 hown hK hP hD hS 0 rfl rfl 7 (by decide) (hts _ q176) (fun _ h9 => h9) rfl hin rfl (by decide +kernel) rfl rfl (Nat.le_of_ble_eq_true rfl) dX1_init_54 (fun H locs hP hD hS => ?_)
  have hP : va_P D vwCl [(h0, .inr (1, [.ref q1_, .ref q2_, .int (nI 2), .int (-1), .int (nI 2), .int (nI 1), .ref q3_, .ref q4_])), (q1_, .inl (c1_, 20, .inl (fun _ => 0))), (q2_, .inl (c2_, 2, .inl (fun k => nI ((fun _ => 0) k)))), (q3_, .inl (c3_, 363, .inl (fun _ => 0))), (q4_, .inl (c4_, 363, .inl (fun _ => 0)))] H := hP
  have hD : va_D A [(h0, .inr (1, [.ref q1_, .ref q2_, .int (nI 2), .int (-1), .int (nI 2), .int (nI 1), .ref q3_, .ref q4_])), (q1_, .inl (c1_, 20, .inl (fun _ => 0))), (q2_, .inl (c2_, 2, .inl (fun k => nI ((fun _ => 0) k)))), (q3_, .inl (c3_, 363, .inl (fun _ => 0))), (q4_, .inl (c4_, 363, .inl (fun _ => 0)))] := hD
  exact W.vret hx hb hr (fun t ht hW => ⟨⟨((fun k => match k with | 0 => h0 | 1 => q1_ | 2 => q2_ | 3 => q3_ | _ => q4_), (fun k => match k with | 1 => c1_ | 2 => c2_ | 3 => c3_ | _ => c4_)), rfl, rfl, by rw [ht]; exact hP, va_K.moved hW.alike hK, hD⟩, hS.F ht⟩) hS.2.2 dX1_init_57
end
section
/-! PURE: alignments counted by score. al_F: from the front, al_D: from behind, al_M: between two points. No program in sight. -/
def al_c (O L : Int) (s t : Nat) : Int := if s = t then L else O + L
def al_suc (g : Nat → Nat → Int) (O L : Int) (f : Nat → Nat → Nat → Int → Nat) (i j s : Nat) (v : Int) : Nat :=
  f (i + 1) (j + 1) 0 (v + -g i j) + f (i + 1) j 1 (v + al_c O L s 1) + f i (j + 1) 2 (v + al_c O L s 2)
def al_pre (g : Nat → Nat → Int) (O L : Int) (f : Nat → Nat → Nat → Int → Nat) (i j s : Nat) (v : Int) : Nat :=
  if s = 0 then (if 0 < i ∧ 0 < j then f (i - 1) (j - 1) 0 (v + -g (i - 1) (j - 1)) + f (i - 1) (j - 1) 1 (v + -g (i - 1) (j - 1)) + f (i - 1) (j - 1) 2 (v + -g (i - 1) (j - 1)) else 0)
  else if s = 1 then (if 0 < i then f (i - 1) j 0 (v + al_c O L 0 1) + f (i - 1) j 1 (v + al_c O L 1 1) + f (i - 1) j 2 (v + al_c O L 2 1) else 0)
  else if s = 2 then (if 0 < j then f i (j - 1) 0 (v + al_c O L 0 2) + f i (j - 1) 1 (v + al_c O L 1 2) + f i (j - 1) 2 (v + al_c O L 2 2) else 0)
  else 0
/-- how many alignments of at most K columns go from i, j, s to the target with score v -/
def al_M (g : Nat → Nat → Int) (O L : Int) (i' j' s' : Nat) : Nat → Nat → Nat → Nat → Int → Nat
  | 0 => fun i j s v => if i = i' ∧ j = j' ∧ s = s' ∧ v = 0 then 1 else 0
  | K + 1 => fun i j s v => (if i = i' ∧ j = j' ∧ s = s' ∧ v = 0 then 1 else 0) + al_suc g O L (al_M g O L i' j' s' K) i j s v
def al_D (g : Nat → Nat → Int) (O L : Int) (b : Nat → Nat → Bool) : Nat → Nat → Nat → Nat → Int → Nat
  | 0 => fun i j _ v => if b i j = true ∧ v = 0 then 1 else 0
  | K + 1 => fun i j s v => (if b i j = true ∧ v = 0 then 1 else 0) + al_suc g O L (al_D g O L b K) i j s v
def al_F (g : Nat → Nat → Int) (O L : Int) (a : Nat → Nat → Bool) : Nat → Nat → Nat → Nat → Int → Nat
  | 0 => fun i j s v => if a i j = true ∧ s = 0 ∧ v = 0 then 1 else 0
  | K + 1 => fun i j s v => (if a i j = true ∧ s = 0 ∧ v = 0 then 1 else 0) + al_pre g O L (al_F g O L a K) i j s v
section AL
variable {g : Nat → Nat → Int} {O L : Int}
theorem al_pre_add (f h : Nat → Nat → Nat → Int → Nat) (i j s : Nat) (v : Int) : al_pre g O L (fun a b c u => f a b c u + h a b c u) i j s v = al_pre g O L f i j s v + al_pre g O L h i j s v := by
  unfold al_pre
  by_cases h0 : s = 0
  · simp only [if_pos h0]
    by_cases h1 : 0 < i ∧ 0 < j
    · simp only [if_pos h1]; omega
    · simp only [if_neg h1]
  · simp only [if_neg h0]
    by_cases h1 : s = 1
    · simp only [if_pos h1]
      by_cases h2 : 0 < i
      · simp only [if_pos h2]; omega
      · simp only [if_neg h2]
    · simp only [if_neg h1]
      by_cases h2 : s = 2
      · simp only [if_pos h2]
        by_cases h3 : 0 < j
        · simp only [if_pos h3]; omega
        · simp only [if_neg h3]
      · simp only [if_neg h2]
theorem al_pre_shift (f : Nat → Nat → Nat → Int → Nat) (i j s : Nat) (v w : Int) : al_pre g O L (fun a b c u => f a b c (u + w)) i j s v = al_pre g O L f i j s (v + w) := by
  simp only [al_pre, Int.add_right_comm v _ w]
theorem al_base (i j s : Nat) (hs : s < 3) (i' j' s' : Nat) (v : Int) :
    (if i + 1 = i' ∧ j + 1 = j' ∧ 0 = s' ∧ v + -g i j = 0 then 1 else 0) + (if i + 1 = i' ∧ j = j' ∧ 1 = s' ∧ v + al_c O L s 1 = 0 then 1 else 0) + (if i = i' ∧ j + 1 = j' ∧ 2 = s' ∧ v + al_c O L s 2 = 0 then 1 else 0)
      = al_pre g O L (fun a b c u => if i = a ∧ j = b ∧ s = c ∧ u = 0 then 1 else 0) i' j' s' v := by
  have h3 : s = 0 ∨ s = 1 ∨ s = 2 := by omega
  by_cases e0 : s' = 0
  · subst e0
    by_cases h : i + 1 = i' ∧ j + 1 = j'
    · obtain ⟨rfl, rfl⟩ := h
      rcases h3 with rfl | rfl | rfl <;> simp [al_pre]
    · have l1 : ∀ P : Prop, ¬ (i + 1 = i' ∧ j + 1 = j' ∧ P) := fun P q => h ⟨q.1, q.2.1⟩
      unfold al_pre
      by_cases hp : 0 < i' ∧ 0 < j'
      · have l2 : ∀ P : Prop, ¬ (i = i' - 1 ∧ j = j' - 1 ∧ P) := fun P q => h ⟨by omega, by omega⟩
        simp [l1, l2]
      · simp [l1, hp]
  · by_cases e1 : s' = 1
    · subst e1
      by_cases h : i + 1 = i' ∧ j = j'
      · obtain ⟨rfl, rfl⟩ := h
        rcases h3 with rfl | rfl | rfl <;> simp [al_pre]
      · have l1 : ∀ P : Prop, ¬ (i + 1 = i' ∧ j = j' ∧ P) := fun P q => h ⟨q.1, q.2.1⟩
        unfold al_pre
        by_cases hp : 0 < i'
        · have l2 : ∀ P : Prop, ¬ (i = i' - 1 ∧ j = j' ∧ P) := fun P q => h ⟨by omega, by omega⟩
          simp [l1, l2]
        · simp [l1, hp]
    · by_cases e2 : s' = 2
      · subst e2
        by_cases h : i = i' ∧ j + 1 = j'
        · obtain ⟨rfl, rfl⟩ := h
          rcases h3 with rfl | rfl | rfl <;> simp [al_pre]
        · have l1 : ∀ P : Prop, ¬ (i = i' ∧ j + 1 = j' ∧ P) := fun P q => h ⟨q.1, q.2.1⟩
          unfold al_pre
          by_cases hp : 0 < j'
          · have l2 : ∀ P : Prop, ¬ (i = i' ∧ j = j' - 1 ∧ P) := fun P q => h ⟨by omega, by omega⟩
            simp [l1, l2]
          · simp [l1, hp]
      · have n0 : ¬ 0 = s' := fun q => e0 q.symm
        have n1 : ¬ 1 = s' := fun q => e1 q.symm
        have n2 : ¬ 2 = s' := fun q => e2 q.symm
        simp [al_pre, e0, e1, e2, n0, n1, n2]
/-- the last column apart, where the recursion takes the first -/
theorem al_M_snoc (K : Nat) : ∀ (i j s : Nat) (v : Int), s < 3 → ∀ (i' j' s' : Nat), al_M g O L i' j' s' (K + 1) i j s v = (if i = i' ∧ j = j' ∧ s = s' ∧ v = 0 then 1 else 0) + al_pre g O L (fun a b c u => al_M g O L a b c K i j s u) i' j' s' v := by
  induction K with
  | zero =>
    intro i j s v hs i' j' s'
    show _ + al_suc g O L (al_M g O L i' j' s' 0) i j s v = _
    congr 1
    exact al_base i j s hs i' j' s' v
  | succ K ih =>
    intro i j s v hs i' j' s'
    have e1 : al_M g O L i' j' s' (K + 2) i j s v = (if i = i' ∧ j = j' ∧ s = s' ∧ v = 0 then 1 else 0) + (al_M g O L i' j' s' (K + 1) (i + 1) (j + 1) 0 (v + -g i j) + al_M g O L i' j' s' (K + 1) (i + 1) j 1 (v + al_c O L s 1) + al_M g O L i' j' s' (K + 1) i (j + 1) 2 (v + al_c O L s 2)) := rfl
    have e2 : (fun a b c u => al_M g O L a b c (K + 1) i j s u) = (fun a b c u => (if i = a ∧ j = b ∧ s = c ∧ u = 0 then 1 else 0) + (al_M g O L a b c K (i + 1) (j + 1) 0 (u + -g i j) + al_M g O L a b c K (i + 1) j 1 (u + al_c O L s 1) + al_M g O L a b c K i (j + 1) 2 (u + al_c O L s 2))) := rfl
    rw [e1, e2, al_pre_add (fun a b c u => if i = a ∧ j = b ∧ s = c ∧ u = 0 then 1 else 0), al_pre_add (fun a b c u => al_M g O L a b c K (i + 1) (j + 1) 0 (u + -g i j) + al_M g O L a b c K (i + 1) j 1 (u + al_c O L s 1)), al_pre_add (fun a b c u => al_M g O L a b c K (i + 1) (j + 1) 0 (u + -g i j)),
      al_pre_shift (fun a b c u => al_M g O L a b c K (i + 1) (j + 1) 0 u), al_pre_shift (fun a b c u => al_M g O L a b c K (i + 1) j 1 u), al_pre_shift (fun a b c u => al_M g O L a b c K i (j + 1) 2 u),
      ih (i + 1) (j + 1) 0 _ (by decide), ih (i + 1) j 1 _ (by decide), ih i (j + 1) 2 _ (by decide), ← al_base i j s hs i' j' s' v]
    omega
/-- from the beginning of both -/
theorem al_F_M {a : Nat → Nat → Bool} (ha : ∀ i j, a i j = true ↔ i = 0 ∧ j = 0) (K : Nat) : ∀ (i j s : Nat) (v : Int), al_F g O L a K i j s v = al_M g O L i j s K 0 0 0 v := by
  have hc : ∀ (i j s : Nat) (v : Int), (if a i j = true ∧ s = 0 ∧ v = 0 then 1 else 0 : Nat) = if 0 = i ∧ 0 = j ∧ 0 = s ∧ v = 0 then 1 else 0 := by
    intro i j s v
    by_cases h : a i j = true ∧ s = 0 ∧ v = 0
    · have h1 := (ha i j).mp h.1
      rw [if_pos h, if_pos ⟨h1.1.symm, h1.2.symm, h.2.1.symm, h.2.2⟩]
    · rw [if_neg h, if_neg (fun q => h ⟨(ha i j).mpr ⟨q.1.symm, q.2.1.symm⟩, q.2.2.1.symm, q.2.2.2⟩)]
  induction K with
  | zero => intro i j s v; exact hc i j s v
  | succ K ih =>
    intro i j s v
    have e : al_F g O L a K = fun i j s v => al_M g O L i j s K 0 0 0 v := funext fun i => funext fun j => funext fun s => funext fun v => ih i j s v
    rw [al_M_snoc K 0 0 0 v (by decide) i j s, ← hc, ← e]
    rfl
/-- to one end -/
theorem al_D_M {b : Nat → Nat → Bool} {n m : Nat} (hb : ∀ i j, b i j = true ↔ i = n ∧ j = m) (K : Nat) : ∀ (i j s : Nat) (v : Int), s < 3 → al_D g O L b K i j s v = al_M g O L n m 0 K i j s v + al_M g O L n m 1 K i j s v + al_M g O L n m 2 K i j s v := by
  have hc : ∀ (i j s : Nat) (v : Int), s < 3 → (if b i j = true ∧ v = 0 then 1 else 0 : Nat) = (if i = n ∧ j = m ∧ s = 0 ∧ v = 0 then 1 else 0) + (if i = n ∧ j = m ∧ s = 1 ∧ v = 0 then 1 else 0) + (if i = n ∧ j = m ∧ s = 2 ∧ v = 0 then 1 else 0) := by
    intro i j s v hs
    by_cases h : b i j = true ∧ v = 0
    · obtain ⟨h1, rfl⟩ := h
      obtain ⟨rfl, rfl⟩ := (hb i j).mp h1
      have h3 : s = 0 ∨ s = 1 ∨ s = 2 := by omega
      rcases h3 with rfl | rfl | rfl <;> simp [h1]
    · have l : ∀ t : Nat, ¬ (i = n ∧ j = m ∧ s = t ∧ v = 0) := fun t q => h ⟨(hb i j).mpr ⟨q.1, q.2.1⟩, q.2.2.2⟩
      rw [if_neg h, if_neg (l 0), if_neg (l 1), if_neg (l 2)]
  induction K with
  | zero => intro i j s v hs; exact hc i j s v hs
  | succ K ih =>
    intro i j s v hs
    show (if b i j = true ∧ v = 0 then 1 else 0) + al_suc g O L (al_D g O L b K) i j s v = ((if i = n ∧ j = m ∧ s = 0 ∧ v = 0 then 1 else 0) + al_suc g O L (al_M g O L n m 0 K) i j s v) + ((if i = n ∧ j = m ∧ s = 1 ∧ v = 0 then 1 else 0) + al_suc g O L (al_M g O L n m 1 K) i j s v) + ((if i = n ∧ j = m ∧ s = 2 ∧ v = 0 then 1 else 0) + al_suc g O L (al_M g O L n m 2 K) i j s v)
    rw [hc i j s v hs]
    unfold al_suc
    rw [ih _ _ 0 _ (by decide), ih _ _ 1 _ (by decide), ih _ _ 2 _ (by decide)]
    omega
theorem al_pos3 {a b c : Nat} : 0 < a + b + c ↔ 0 < a ∨ 0 < b ∨ 0 < c := by omega
theorem al_ite {P : Prop} [Decidable P] : 0 < (if P then 1 else 0 : Nat) ↔ P := by
  by_cases h : P
  · simp [h]
  · simp [h]
theorem al_F_pos {a : Nat → Nat → Bool} (K : Nat) : ∀ (i j s : Nat) (v : Int), 0 < al_F g O L a K i j s v ↔ ∃ i0 j0, a i0 j0 = true ∧ 0 < al_M g O L i j s K i0 j0 0 v := by
  have hc : ∀ (i j s : Nat) (v : Int), (a i j = true ∧ s = 0 ∧ v = 0) ↔ ∃ i0 j0, a i0 j0 = true ∧ (i0 = i ∧ j0 = j ∧ 0 = s ∧ v = 0) := by
    intro i j s v
    constructor
    · rintro ⟨h1, h2, h3⟩
      exact ⟨i, j, h1, rfl, rfl, h2.symm, h3⟩
    · rintro ⟨i0, j0, h1, rfl, rfl, h2, h3⟩
      exact ⟨h1, h2.symm, h3⟩
  induction K with
  | zero =>
    intro i j s v
    show 0 < (if a i j = true ∧ s = 0 ∧ v = 0 then 1 else 0 : Nat) ↔ ∃ i0 j0, a i0 j0 = true ∧ 0 < (if i0 = i ∧ j0 = j ∧ 0 = s ∧ v = 0 then 1 else 0 : Nat)
    simp only [al_ite]
    exact hc i j s v
  | succ K ih =>
    intro i j s v
    have e1 : al_F g O L a (K + 1) i j s v = (if a i j = true ∧ s = 0 ∧ v = 0 then 1 else 0) + al_pre g O L (al_F g O L a K) i j s v := rfl
    have hp : 0 < al_pre g O L (al_F g O L a K) i j s v ↔ ∃ i0 j0, a i0 j0 = true ∧ 0 < al_pre g O L (fun x y z u => al_M g O L x y z K i0 j0 0 u) i j s v := by
      have key : ∀ (x y : Nat) (w0 w1 w2 : Int), 0 < al_F g O L a K x y 0 w0 + al_F g O L a K x y 1 w1 + al_F g O L a K x y 2 w2 ↔ ∃ i0 j0, a i0 j0 = true ∧ 0 < al_M g O L x y 0 K i0 j0 0 w0 + al_M g O L x y 1 K i0 j0 0 w1 + al_M g O L x y 2 K i0 j0 0 w2 := by
        intro x y w0 w1 w2
        simp only [al_pos3, ih]
        constructor
        · rintro (⟨p, q, h1, h2⟩ | ⟨p, q, h1, h2⟩ | ⟨p, q, h1, h2⟩)
          · exact ⟨p, q, h1, Or.inl h2⟩
          · exact ⟨p, q, h1, Or.inr (Or.inl h2)⟩
          · exact ⟨p, q, h1, Or.inr (Or.inr h2)⟩
        · rintro ⟨p, q, h1, h2 | h2 | h2⟩
          · exact Or.inl ⟨p, q, h1, h2⟩
          · exact Or.inr (Or.inl ⟨p, q, h1, h2⟩)
          · exact Or.inr (Or.inr ⟨p, q, h1, h2⟩)
      have hnone : ∀ (f : Nat → Nat → Nat), (∀ x y, f x y = 0) → (0 < 0 ↔ ∃ i0 j0, a i0 j0 = true ∧ 0 < f i0 j0) := by
        intro f hf
        constructor
        · intro h; exact absurd h (by decide)
        · rintro ⟨p, q, -, h⟩
          rw [hf] at h
          exact h
      unfold al_pre
      by_cases h0 : s = 0
      · simp only [if_pos h0]
        by_cases h1 : 0 < i ∧ 0 < j
        · simp only [if_pos h1]; exact key _ _ _ _ _
        · simp only [if_neg h1]; exact hnone (fun _ _ => 0) (fun _ _ => rfl)
      · simp only [if_neg h0]
        by_cases h1 : s = 1
        · simp only [if_pos h1]
          by_cases h2 : 0 < i
          · simp only [if_pos h2]; exact key _ _ _ _ _
          · simp only [if_neg h2]; exact hnone (fun _ _ => 0) (fun _ _ => rfl)
        · simp only [if_neg h1]
          by_cases h2 : s = 2
          · simp only [if_pos h2]
            by_cases h3 : 0 < j
            · simp only [if_pos h3]; exact key _ _ _ _ _
            · simp only [if_neg h3]; exact hnone (fun _ _ => 0) (fun _ _ => rfl)
          · simp only [if_neg h2]; exact hnone (fun _ _ => 0) (fun _ _ => rfl)
    have hsum : ∀ p q : Nat, 0 < p + q ↔ 0 < p ∨ 0 < q := fun p q => by omega
    rw [e1, hsum, al_ite, hp, hc]
    constructor
    · rintro (⟨p, q, h1, h2⟩ | ⟨p, q, h1, h2⟩)
      · exact ⟨p, q, h1, by rw [al_M_snoc K p q 0 v (by decide), hsum, al_ite]; exact Or.inl h2⟩
      · exact ⟨p, q, h1, by rw [al_M_snoc K p q 0 v (by decide), hsum]; exact Or.inr h2⟩
    · rintro ⟨p, q, h1, h2⟩
      rw [al_M_snoc K p q 0 v (by decide), hsum, al_ite] at h2
      rcases h2 with h2 | h2
      · exact Or.inl ⟨p, q, h1, h2⟩
      · exact Or.inr ⟨p, q, h1, h2⟩
theorem al_D_pos {b : Nat → Nat → Bool} (K : Nat) : ∀ (i j s : Nat) (v : Int), s < 3 → (0 < al_D g O L b K i j s v ↔ ∃ i' j' s', b i' j' = true ∧ s' < 3 ∧ 0 < al_M g O L i' j' s' K i j s v) := by
  have hc : ∀ (i j s : Nat) (v : Int), s < 3 → ((b i j = true ∧ v = 0) ↔ ∃ i' j' s', b i' j' = true ∧ s' < 3 ∧ (i = i' ∧ j = j' ∧ s = s' ∧ v = 0)) := by
    intro i j s v hs
    constructor
    · rintro ⟨h1, h2⟩
      exact ⟨i, j, s, h1, hs, rfl, rfl, rfl, h2⟩
    · rintro ⟨i0, j0, s0, h1, -, rfl, rfl, rfl, h3⟩
      exact ⟨h1, h3⟩
  induction K with
  | zero =>
    intro i j s v hs
    show 0 < (if b i j = true ∧ v = 0 then 1 else 0 : Nat) ↔ ∃ i' j' s', b i' j' = true ∧ s' < 3 ∧ 0 < (if i = i' ∧ j = j' ∧ s = s' ∧ v = 0 then 1 else 0 : Nat)
    simp only [al_ite]
    exact hc i j s v hs
  | succ K ih =>
    intro i j s v hs
    have hsum : ∀ p q x y : Nat, 0 < p + (q + x + y) ↔ 0 < p ∨ 0 < q ∨ 0 < x ∨ 0 < y := fun p q x y => by omega
    have e1 : al_D g O L b (K + 1) i j s v = (if b i j = true ∧ v = 0 then 1 else 0) + (al_D g O L b K (i + 1) (j + 1) 0 (v + -g i j) + al_D g O L b K (i + 1) j 1 (v + al_c O L s 1) + al_D g O L b K i (j + 1) 2 (v + al_c O L s 2)) := rfl
    have e2 : ∀ i' j' s', al_M g O L i' j' s' (K + 1) i j s v = (if i = i' ∧ j = j' ∧ s = s' ∧ v = 0 then 1 else 0) + (al_M g O L i' j' s' K (i + 1) (j + 1) 0 (v + -g i j) + al_M g O L i' j' s' K (i + 1) j 1 (v + al_c O L s 1) + al_M g O L i' j' s' K i (j + 1) 2 (v + al_c O L s 2)) := fun _ _ _ => rfl
    simp only [e1, e2, hsum, al_ite]
    rw [hc i j s v hs, ih _ _ 0 _ (by decide), ih _ _ 1 _ (by decide), ih _ _ 2 _ (by decide)]
    constructor
    · rintro (⟨p, q, r, h1, h2, h3⟩ | ⟨p, q, r, h1, h2, h3⟩ | ⟨p, q, r, h1, h2, h3⟩ | ⟨p, q, r, h1, h2, h3⟩)
      · exact ⟨p, q, r, h1, h2, Or.inl h3⟩
      · exact ⟨p, q, r, h1, h2, Or.inr (Or.inl h3)⟩
      · exact ⟨p, q, r, h1, h2, Or.inr (Or.inr (Or.inl h3))⟩
      · exact ⟨p, q, r, h1, h2, Or.inr (Or.inr (Or.inr h3))⟩
    · rintro ⟨p, q, r, h1, h2, h3 | h3 | h3 | h3⟩
      · exact Or.inl ⟨p, q, r, h1, h2, h3⟩
      · exact Or.inr (Or.inl ⟨p, q, r, h1, h2, h3⟩)
      · exact Or.inr (Or.inr (Or.inl ⟨p, q, r, h1, h2, h3⟩))
      · exact Or.inr (Or.inr (Or.inr ⟨p, q, r, h1, h2, h3⟩))
/-- the scores from the front at the allowed ends are the scores from behind at the allowed beginnings -/
theorem al_link (a b : Nat → Nat → Bool) (K : Nat) (v : Int) : (∃ i j s, b i j = true ∧ s < 3 ∧ 0 < al_F g O L a K i j s v) ↔ (∃ i j, a i j = true ∧ 0 < al_D g O L b K i j 0 v) := by
  constructor
  · rintro ⟨i, j, s, h1, h2, h3⟩
    obtain ⟨i0, j0, h4, h5⟩ := (al_F_pos K i j s v).mp h3
    exact ⟨i0, j0, h4, (al_D_pos K i0 j0 0 v (by decide)).mpr ⟨i, j, s, h1, h2, h5⟩⟩
  · rintro ⟨i0, j0, h4, h5⟩
    obtain ⟨i, j, s, h1, h2, h3⟩ := (al_D_pos K i0 j0 0 v (by decide)).mp h5
    exact ⟨i, j, s, h1, h2, (al_F_pos K i j s v).mpr ⟨i0, j0, h4, h3⟩⟩
/-- the numbers of ways, both ways -/
theorem al_same {a b : Nat → Nat → Bool} {n m : Nat} (ha : ∀ i j, a i j = true ↔ i = 0 ∧ j = 0) (hb : ∀ i j, b i j = true ↔ i = n ∧ j = m) (K : Nat) (v : Int) : al_F g O L a K n m 0 v + al_F g O L a K n m 1 v + al_F g O L a K n m 2 v = al_D g O L b K 0 0 0 v := by
  rw [al_F_M ha, al_F_M ha, al_F_M ha, al_D_M hb K 0 0 0 v (by decide)]
/-- scores are small -/
theorem al_M_small (hg : ∀ i j, -9 ≤ g i j ∧ g i j ≤ 9) (hO : 0 ≤ O ∧ O ≤ 9) (hL : 0 ≤ L ∧ L ≤ 9) (i' j' s' : Nat) (K : Nat) : ∀ (i j s : Nat) (v : Int), 0 < al_M g O L i' j' s' K i j s v → -(18 * K) ≤ v ∧ v ≤ 18 * K := by
  have hcc : ∀ s t, 0 ≤ al_c O L s t ∧ al_c O L s t ≤ 18 := by
    intro s t
    unfold al_c
    split <;> omega
  induction K with
  | zero =>
    intro i j s v h
    have h := al_ite.mp h
    omega
  | succ K ih =>
    intro i j s v h
    have hsum : ∀ p q x y : Nat, 0 < p + (q + x + y) ↔ 0 < p ∨ 0 < q ∨ 0 < x ∨ 0 < y := fun p q x y => by omega
    have e2 : al_M g O L i' j' s' (K + 1) i j s v = (if i = i' ∧ j = j' ∧ s = s' ∧ v = 0 then 1 else 0) + (al_M g O L i' j' s' K (i + 1) (j + 1) 0 (v + -g i j) + al_M g O L i' j' s' K (i + 1) j 1 (v + al_c O L s 1) + al_M g O L i' j' s' K i (j + 1) 2 (v + al_c O L s 2)) := rfl
    rw [e2, hsum, al_ite] at h
    have a1 := hg i j
    have a2 := hcc s 1
    have a3 := hcc s 2
    rcases h with h | h | h | h
    · omega
    · have := ih _ _ _ _ h; omega
    · have := ih _ _ _ _ h; omega
    · have := ih _ _ _ _ h; omega
theorem al_F_small (hg : ∀ i j, -9 ≤ g i j ∧ g i j ≤ 9) (hO : 0 ≤ O ∧ O ≤ 9) (hL : 0 ≤ L ∧ L ≤ 9) {a : Nat → Nat → Bool} {i j s : Nat} {v : Int} (h : 0 < al_F g O L a 20 i j s v) : -400 ≤ v ∧ v ≤ 400 := by
  obtain ⟨i0, j0, -, h1⟩ := (al_F_pos 20 i j s v).mp h
  have := al_M_small hg hO hL _ _ _ _ _ _ _ _ h1
  omega
theorem al_D_small (hg : ∀ i j, -9 ≤ g i j ∧ g i j ≤ 9) (hO : 0 ≤ O ∧ O ≤ 9) (hL : 0 ≤ L ∧ L ≤ 9) {b : Nat → Nat → Bool} {i j s : Nat} {v : Int} (hs : s < 3) (h : 0 < al_D g O L b 20 i j s v) : -400 ≤ v ∧ v ≤ 400 := by
  obtain ⟨i0, j0, s0, -, -, h1⟩ := (al_D_pos 20 i j s v hs).mp h
  have := al_M_small hg hO hL _ _ _ _ _ _ _ _ h1
  omega
theorem al_F_stab {a : Nat → Nat → Bool} (K : Nat) : ∀ (i j s : Nat) (v : Int), i + j ≤ K → al_F g O L a (K + 1) i j s v = al_F g O L a K i j s v := by
  induction K with
  | zero =>
    intro i j s v h
    have hi : i = 0 := by omega
    have hj : j = 0 := by omega
    subst hi; subst hj
    show _ + al_pre g O L (al_F g O L a 0) 0 0 s v = _
    have : al_pre g O L (al_F g O L a 0) 0 0 s v = 0 := by simp [al_pre]
    rw [this]
    rfl
  | succ K ih =>
    intro i j s v h
    show (if a i j = true ∧ s = 0 ∧ v = 0 then 1 else 0) + al_pre g O L (al_F g O L a (K + 1)) i j s v = (if a i j = true ∧ s = 0 ∧ v = 0 then 1 else 0) + al_pre g O L (al_F g O L a K) i j s v
    congr 1
    unfold al_pre
    by_cases h0 : s = 0
    · simp only [if_pos h0]
      by_cases h1 : 0 < i ∧ 0 < j
      · simp only [if_pos h1]
        rw [ih _ _ _ _ (by omega), ih _ _ _ _ (by omega), ih _ _ _ _ (by omega)]
      · simp only [if_neg h1]
    · simp only [if_neg h0]
      by_cases h1 : s = 1
      · simp only [if_pos h1]
        by_cases h2 : 0 < i
        · simp only [if_pos h2]
          rw [ih _ _ _ _ (by omega), ih _ _ _ _ (by omega), ih _ _ _ _ (by omega)]
        · simp only [if_neg h2]
      · simp only [if_neg h1]
        by_cases h2 : s = 2
        · simp only [if_pos h2]
          by_cases h3 : 0 < j
          · simp only [if_pos h3]
            rw [ih _ _ _ _ (by omega), ih _ _ _ _ (by omega), ih _ _ _ _ (by omega)]
          · simp only [if_neg h3]
        · simp only [if_neg h2]
/-- the front's own recursion -/
theorem al_F_rec {a : Nat → Nat → Bool} {i j : Nat} (h : i + j ≤ 20) (s : Nat) (v : Int) : al_F g O L a 20 i j s v = (if a i j = true ∧ s = 0 ∧ v = 0 then 1 else 0) + al_pre g O L (al_F g O L a 20) i j s v := (al_F_stab 20 i j s v h).symm
theorem al_D_out {b : Nat → Nat → Bool} {n m : Nat} (hb : ∀ i j, b i j = true → i ≤ n ∧ j ≤ m) (K : Nat) : ∀ (i j s : Nat) (v : Int), n < i ∨ m < j → al_D g O L b K i j s v = 0 := by
  induction K with
  | zero =>
    intro i j s v h
    show (if b i j = true ∧ v = 0 then 1 else 0) = 0
    rw [if_neg (fun q => by have := hb i j q.1; omega)]
  | succ K ih =>
    intro i j s v h
    show (if b i j = true ∧ v = 0 then 1 else 0) + (al_D g O L b K (i + 1) (j + 1) 0 (v + -g i j) + al_D g O L b K (i + 1) j 1 (v + al_c O L s 1) + al_D g O L b K i (j + 1) 2 (v + al_c O L s 2)) = 0
    rw [if_neg (fun q => by have := hb i j q.1; omega), ih _ _ _ _ (by omega), ih _ _ _ _ (by omega), ih _ _ _ _ (by omega)]
theorem al_D_stab {b : Nat → Nat → Bool} {n m : Nat} (hb : ∀ i j, b i j = true → i ≤ n ∧ j ≤ m) (K : Nat) : ∀ (i j s : Nat) (v : Int), (n - i) + (m - j) ≤ K → al_D g O L b (K + 1) i j s v = al_D g O L b K i j s v := by
  induction K with
  | zero =>
    intro i j s v h
    show (if b i j = true ∧ v = 0 then 1 else 0) + (al_D g O L b 0 (i + 1) (j + 1) 0 (v + -g i j) + al_D g O L b 0 (i + 1) j 1 (v + al_c O L s 1) + al_D g O L b 0 i (j + 1) 2 (v + al_c O L s 2)) = (if b i j = true ∧ v = 0 then 1 else 0)
    rw [al_D_out hb 0 _ _ _ _ (by omega), al_D_out hb 0 _ _ _ _ (by omega), al_D_out hb 0 _ _ _ _ (by omega)]
    exact Nat.add_zero _
  | succ K ih =>
    intro i j s v h
    show (if b i j = true ∧ v = 0 then 1 else 0) + (al_D g O L b (K + 1) (i + 1) (j + 1) 0 (v + -g i j) + al_D g O L b (K + 1) (i + 1) j 1 (v + al_c O L s 1) + al_D g O L b (K + 1) i (j + 1) 2 (v + al_c O L s 2)) = (if b i j = true ∧ v = 0 then 1 else 0) + (al_D g O L b K (i + 1) (j + 1) 0 (v + -g i j) + al_D g O L b K (i + 1) j 1 (v + al_c O L s 1) + al_D g O L b K i (j + 1) 2 (v + al_c O L s 2))
    have k1 : ∀ w, al_D g O L b (K + 1) (i + 1) (j + 1) 0 w = al_D g O L b K (i + 1) (j + 1) 0 w := fun w => by
      by_cases q : n < i + 1
      · rw [al_D_out hb _ _ _ _ _ (Or.inl q), al_D_out hb _ _ _ _ _ (Or.inl q)]
      · exact ih _ _ _ _ (by omega)
    have k2 : ∀ w, al_D g O L b (K + 1) (i + 1) j 1 w = al_D g O L b K (i + 1) j 1 w := fun w => by
      by_cases q : n < i + 1
      · rw [al_D_out hb _ _ _ _ _ (Or.inl q), al_D_out hb _ _ _ _ _ (Or.inl q)]
      · exact ih _ _ _ _ (by omega)
    have k3 : ∀ w, al_D g O L b (K + 1) i (j + 1) 2 w = al_D g O L b K i (j + 1) 2 w := fun w => by
      by_cases q : m < j + 1
      · rw [al_D_out hb _ _ _ _ _ (Or.inr q), al_D_out hb _ _ _ _ _ (Or.inr q)]
      · exact ih _ _ _ _ (by omega)
    rw [k1, k2, k3]
theorem al_D_rec {b : Nat → Nat → Bool} {n m : Nat} (hb : ∀ i j, b i j = true → i ≤ n ∧ j ≤ m) (hnm : n + m ≤ 20) (i j s : Nat) (v : Int) : al_D g O L b 20 i j s v = (if b i j = true ∧ v = 0 then 1 else 0) + (al_D g O L b 20 (i + 1) (j + 1) 0 (v + -g i j) + al_D g O L b 20 (i + 1) j 1 (v + al_c O L s 1) + al_D g O L b 20 i (j + 1) 2 (v + al_c O L s 2)) := (al_D_stab hb 20 i j s v (by omega)).symm
/-- what is left can be had from every place of the box -/
theorem al_D_some {b : Nat → Nat → Bool} {n m : Nat} (hb : ∀ i j, b i j = true → i ≤ n ∧ j ≤ m) (hnm : n + m ≤ 20) (he : b n m = true) : ∀ (k i j s : Nat), i ≤ n → j ≤ m → (n - i) + (m - j) = k → ∃ v, 0 < al_D g O L b 20 i j s v := by
  intro k
  induction k with
  | zero =>
    intro i j s hi hj h
    have e1 : i = n := by omega
    have e2 : j = m := by omega
    subst e1; subst e2
    refine ⟨0, ?_⟩
    rw [al_D_rec hb hnm, if_pos ⟨he, rfl⟩]
    omega
  | succ k ih =>
    intro i j s hi hj h
    by_cases q : i < n
    · obtain ⟨v, hv⟩ := ih (i + 1) j 1 (by omega) hj (by omega)
      refine ⟨v + -al_c O L s 1, ?_⟩
      rw [al_D_rec hb hnm]
      have e : v + -al_c O L s 1 + al_c O L s 1 = v := by omega
      rw [e]
      omega
    · obtain ⟨v, hv⟩ := ih i (j + 1) 2 hi (by omega) (by omega)
      refine ⟨v + -al_c O L s 2, ?_⟩
      rw [al_D_rec hb hnm]
      have e : v + -al_c O L s 2 + al_c O L s 2 = v := by omega
      rw [e]
      omega
end AL
end
section
/-! PURE: a table's place (x, w) holds the greatest score of a family f (score to number), and how many have it. al_R: perhaps none; al_O: what is offered. The rows on whole numbers are those of kit/laws COUNTS. -/
theorem fb_rng (x : Int32) : -2147483648 ≤ x.toInt ∧ x.toInt < 2147483648 := by
  have h1 := Int32.le_toInt x
  have h2 := Int32.toInt_lt x
  omega
theorem fb_bmod {z : Int} (h1 : -2147483648 ≤ z) (h2 : z < 2147483648) : z.bmod (2 ^ 32) = z := by
  rw [Int.bmod_eq_of_le (by omega) (by omega)]
theorem fb_addI {x y : Int32} (h1 : -2147483648 ≤ x.toInt + y.toInt) (h2 : x.toInt + y.toInt < 2147483648) : (x + y).toInt = x.toInt + y.toInt := by
  rw [Int32.toInt_add, fb_bmod h1 h2]
theorem fb_subI {x y : Int32} (h1 : -2147483648 ≤ x.toInt - y.toInt) (h2 : x.toInt - y.toInt < 2147483648) : (x - y).toInt = x.toInt - y.toInt := by
  rw [Int32.toInt_sub, fb_bmod h1 h2]
theorem fb_mulI {x y : Int32} (h1 : -2147483648 ≤ x.toInt * y.toInt) (h2 : x.toInt * y.toInt < 2147483648) : (x * y).toInt = x.toInt * y.toInt := by
  rw [Int32.toInt_mul, fb_bmod h1 h2]
theorem al_nv : (-100000 : Int32).toInt = -100000 := by decide +kernel
theorem al_n5 : (-50000 : Int32).toInt = -50000 := by decide +kernel
theorem al_z : (nI 0).toInt = 0 := by decide +kernel
theorem al_lt {a b : Int32} : a < b ↔ a.toInt < b.toInt := Int32.lt_iff_toInt_lt
theorem al_le {a b : Int32} : a ≤ b ↔ a.toInt ≤ b.toInt := Int32.le_iff_toInt_le
theorem al_eq {a b : Int32} : a = b ↔ a.toInt = b.toInt := Int32.toInt_inj.symm
/-- the greatest score of f is x, and w of f have it (as an int) -/
def al_X (f : Int → Nat) (x w : Int32) : Prop := 0 < f x.toInt ∧ (∀ v, x.toInt < v → f v = 0) ∧ w = nI (f x.toInt)
def al_R (f : Int → Nat) (x w : Int32) : Prop := ((∀ v, f v = 0) ∧ x = -100000 ∧ w = nI 0) ∨ al_X f x w
/-- scores of f are small -/
def al_B (f : Int → Nat) : Prop := ∀ v, 0 < f v → -400 ≤ v ∧ v ≤ 400
/-- what is offered: nothing, told by a score far below, or the greatest of h -/
def al_O (h : Int → Nat) (y u : Int32) : Prop := ((∀ v, h v = 0) ∧ y.toInt ≤ -100000) ∨ (al_X h y u ∧ -1000 ≤ y.toInt)
theorem al_X_add {f h : Int → Nat} {x w y u : Int32} (hf : al_X f x w) (hh : al_X h y u) :
    (y.toInt < x.toInt → al_X (fun v => f v + h v) x w) ∧ (x.toInt < y.toInt → al_X (fun v => f v + h v) y u) ∧ (x.toInt = y.toInt → al_X (fun v => f v + h v) x (w + u)) := by
  obtain ⟨f1, f2, f3⟩ := hf
  obtain ⟨h1, h2, h3⟩ := hh
  refine ⟨fun q => ⟨?_, ?_, ?_⟩, fun q => ⟨?_, ?_, ?_⟩, fun q => ⟨?_, ?_, ?_⟩⟩
  · show 0 < f x.toInt + h x.toInt
    omega
  · intro v hv
    show f v + h v = 0
    rw [f2 v hv, h2 v (by omega)]
  · show w = nI (f x.toInt + h x.toInt)
    rw [h2 _ q, f3, Nat.add_zero]
  · show 0 < f y.toInt + h y.toInt
    omega
  · intro v hv
    show f v + h v = 0
    rw [f2 v (by omega), h2 v hv]
  · show u = nI (f y.toInt + h y.toInt)
    rw [f2 _ q, h3, Nat.zero_add]
  · show 0 < f x.toInt + h x.toInt
    omega
  · intro v hv
    show f v + h v = 0
    rw [f2 v hv, h2 v (by omega)]
  · show w + u = nI (f x.toInt + h x.toInt)
    rw [f3, h3, nI_add, q]
theorem al_X_cong {f h : Int → Nat} (e : ∀ v, f v = h v) {x w : Int32} (hf : al_X f x w) : al_X h x w := by
  have : f = h := funext e
  rw [← this]; exact hf
theorem al_R_cong {f h : Int → Nat} (e : ∀ v, f v = h v) {x w : Int32} (hf : al_R f x w) : al_R h x w := by
  have : f = h := funext e
  rw [← this]; exact hf
theorem al_O_cong {f h : Int → Nat} (e : ∀ v, f v = h v) {x w : Int32} (hf : al_O f x w) : al_O h x w := by
  have : f = h := funext e
  rw [← this]; exact hf
theorem al_X_bd {f : Int → Nat} {x w : Int32} (hb : al_B f) (h : al_X f x w) : -400 ≤ x.toInt ∧ x.toInt ≤ 400 := hb _ h.1
theorem al_R_lo {f : Int → Nat} {x w : Int32} (hb : al_B f) (h : al_R f x w) : -100000 ≤ x.toInt ∧ x.toInt ≤ 400 := by
  rcases h with ⟨-, h, -⟩ | h
  · rw [h, al_nv]; omega
  · have := al_X_bd hb h; omega
/-- the component's offer -/
theorem x_off_R {f h : Int → Nat} {t : al_T} {k : Nat} {y u : Int32} (hb : al_B f) (hf : al_R f (t.1 k) (t.2 k)) (hh : al_X h y u) (hy : -1000 ≤ y.toInt) : al_R (fun v => f v + h v) ((x_off t k y u).1 k) ((x_off t k y u).2 k) := by
  have hl := al_R_lo hb hf
  by_cases c1 : t.1 k ≤ y
  · have e : x_off t k y u = (upd t.1 k y, upd t.2 k ((if y ≤ t.1 k then t.2 k else nI 0) + u)) := if_pos c1
    rw [e]
    show al_R _ (upd t.1 k y k) (upd t.2 k _ k)
    rw [pk_us, pk_us]
    rw [al_le] at c1
    by_cases c2 : y ≤ t.1 k
    · rw [if_pos c2]
      rw [al_le] at c2
      have ex : t.1 k = y := al_eq.mpr (by omega)
      rcases hf with ⟨-, h2, -⟩ | hf
      · rw [h2, al_nv] at c2
        omega
      · have := (al_X_add hf hh).2.2 (by rw [ex])
        rw [ex] at this
        exact Or.inr this
    · rw [if_neg c2]
      rw [al_le] at c2
      have e0 : nI 0 + u = u := by rw [nI_0]; exact Int32.zero_add u
      rw [e0]
      rcases hf with ⟨h1, h2, h3⟩ | hf
      · exact Or.inr (al_X_cong (fun v => by rw [h1 v, Nat.zero_add]) hh)
      · exact Or.inr ((al_X_add hf hh).2.1 (by omega))
  · have e : x_off t k y u = t := if_neg c1
    rw [e]
    rw [al_le] at c1
    rcases hf with ⟨h1, h2, h3⟩ | hf
    · rw [h2, al_nv] at c1
      omega
    · exact Or.inr ((al_X_add hf hh).1 (by omega))
theorem x_off_ne {t : al_T} {k j : Nat} {y u : Int32} (h : j ≠ k) : (x_off t k y u).1 j = t.1 j ∧ (x_off t k y u).2 j = t.2 j := by
  by_cases c1 : t.1 k ≤ y
  · have e : x_off t k y u = (upd t.1 k y, upd t.2 k ((if y ≤ t.1 k then t.2 k else nI 0) + u)) := if_pos c1
    rw [e]
    exact ⟨pk_un h, pk_un h⟩
  · have e : x_off t k y u = t := if_neg c1
    rw [e]
    exact ⟨rfl, rfl⟩
/-- the reference's offer -/
theorem m_off_R {f h : Int → Nat} {t : al_T} {k : Nat} {y u : Int32} (hb : al_B f) (hf : al_R f (t.1 k) (t.2 k)) (hh : al_O h y u) : al_R (fun v => f v + h v) ((m_off t k y u).1 k) ((m_off t k y u).2 k) := by
  have hl := al_R_lo hb hf
  rcases hh with ⟨h1, h2⟩ | ⟨hh, hy⟩
  · have c1 : y ≤ t.1 k := al_le.mpr (by omega)
    have ho : m_o1 t k y = t := if_pos c1
    have e : m_off t k y u = t := by
      unfold m_off
      rw [ho]
      exact if_neg (fun q => q.2 (al_le.mpr (by rw [al_n5]; omega)))
    rw [e]
    exact al_R_cong (fun v => by rw [h1 v, Nat.add_zero]) hf
  · have n5 : ¬ y ≤ -50000 := fun q => by rw [al_le, al_n5] at q; omega
    by_cases c1 : y ≤ t.1 k
    · have ho : m_o1 t k y = t := if_pos c1
      rw [al_le] at c1
      rcases hf with ⟨g1, g2, g3⟩ | hf
      · rw [g2, al_nv] at c1
        omega
      · by_cases c2 : y = t.1 k
        · have e : m_off t k y u = (t.1, upd t.2 k (t.2 k + u)) := by
            unfold m_off
            rw [ho]
            exact if_pos ⟨c2, n5⟩
          rw [e]
          show al_R _ (t.1 k) (upd t.2 k _ k)
          rw [pk_us]
          exact Or.inr ((al_X_add hf hh).2.2 (by rw [c2]))
        · have e : m_off t k y u = t := by
            unfold m_off
            rw [ho]
            exact if_neg (fun q => c2 q.1)
          rw [e]
          have : y.toInt ≠ (t.1 k).toInt := fun q => c2 (al_eq.mpr q)
          exact Or.inr ((al_X_add hf hh).1 (by omega))
    · have ho : m_o1 t k y = (upd t.1 k y, upd t.2 k (nI 0)) := if_neg c1
      have e : m_off t k y u = (upd t.1 k y, upd (upd t.2 k (nI 0)) k (upd t.2 k (nI 0) k + u)) := by
        unfold m_off
        rw [ho]
        exact if_pos ⟨pk_us.symm, n5⟩
      rw [e]
      show al_R _ (upd t.1 k y k) (upd (upd t.2 k (nI 0)) k _ k)
      rw [pk_us, pk_us, pk_us]
      have e0 : nI 0 + u = u := by rw [nI_0]; exact Int32.zero_add u
      rw [e0]
      rw [al_le] at c1
      rcases hf with ⟨g1, g2, g3⟩ | hf
      · exact Or.inr (al_X_cong (fun v => by rw [g1 v, Nat.zero_add]) hh)
      · exact Or.inr ((al_X_add hf hh).2.1 (by omega))
theorem m_off_ne {t : al_T} {k j : Nat} {y u : Int32} (h : j ≠ k) : (m_off t k y u).1 j = t.1 j ∧ (m_off t k y u).2 j = t.2 j := by
  have ho : (m_o1 t k y).1 j = t.1 j ∧ (m_o1 t k y).2 j = t.2 j := by
    by_cases c1 : y ≤ t.1 k
    · have e : m_o1 t k y = t := if_pos c1
      rw [e]
      exact ⟨rfl, rfl⟩
    · have e : m_o1 t k y = (upd t.1 k y, upd t.2 k (nI 0)) := if_neg c1
      rw [e]
      exact ⟨pk_un h, pk_un h⟩
  by_cases c2 : y = (m_o1 t k y).1 k ∧ ¬ y ≤ -50000
  · have e : m_off t k y u = ((m_o1 t k y).1, upd (m_o1 t k y).2 k ((m_o1 t k y).2 k + u)) := if_pos c2
    rw [e]
    exact ⟨ho.1, by rw [← ho.2]; exact pk_un h⟩
  · have e : m_off t k y u = m_o1 t k y := if_neg c2
    rw [e]
    exact ho
/-- the same family, its scores moved by -d -/
theorem al_X_shift {f : Int → Nat} {x w y : Int32} {d : Int} (h : al_X f x w) (hy : y.toInt = x.toInt - d) : al_X (fun v => f (v + d)) y w := by
  obtain ⟨h1, h2, h3⟩ := h
  have e : y.toInt + d = x.toInt := by omega
  refine ⟨?_, fun v hv => h2 _ (by omega), ?_⟩
  · show 0 < f (y.toInt + d)
    rw [e]; exact h1
  · show w = nI (f (y.toInt + d))
    rw [e]; exact h3
theorem al_X_one {f : Int → Nat} {x y w u : Int32} (h1 : al_X f x w) (h2 : al_X f y u) : x = y ∧ w = u := by
  have e : x.toInt = y.toInt := by
    rcases Int.lt_trichotomy x.toInt y.toInt with q | q | q
    · have := h1.2.1 _ q
      have := h2.1
      omega
    · exact q
    · have := h2.2.1 _ q
      have := h1.1
      omega
  have e2 : x = y := al_eq.mpr e
  exact ⟨e2, by rw [h1.2.2, h2.2.2, e]⟩
theorem al_X_of {f : Int → Nat} {x w : Int32} (h : al_R f x w) (hs : ∃ v, 0 < f v) : al_X f x w := by
  rcases h with ⟨h1, -⟩ | h
  · obtain ⟨v, hv⟩ := hs
    rw [h1] at hv
    exact absurd hv (by decide)
  · exact h
/-- x is the greatest of a set of scores, or the set is empty and x far below -/
def al_U (S : Int → Prop) (x : Int32) : Prop := (∀ v, S v → v ≤ x.toInt) ∧ (S x.toInt ∨ x = -100000)
theorem al_U_R {f : Int → Nat} {x w : Int32} (h : al_R f x w) : al_U (fun v => 0 < f v) x := by
  rcases h with ⟨h1, h2, -⟩ | h
  · exact ⟨fun v hv => by have hv : 0 < f v := hv; rw [h1] at hv; exact absurd hv (by decide), Or.inr h2⟩
  · refine ⟨fun v hv => ?_, Or.inl h.1⟩
    rcases Int.lt_or_le x.toInt v with q | q
    · have := h.2.1 v q
      omega
    · exact q
theorem al_U_cong {S S' : Int → Prop} (e : ∀ v, S v ↔ S' v) {x : Int32} (h : al_U S x) : al_U S' x := ⟨fun v hv => h.1 v ((e v).mpr hv), h.2.imp (e _).mp id⟩
theorem al_U_max {S S' : Int → Prop} {x y : Int32} (h : al_U S x) (h' : al_U S' y) (hx : -100000 ≤ x.toInt) (hy : -100000 ≤ y.toInt) : al_U (fun v => S v ∨ S' v) (al_max x y) ∧ -100000 ≤ (al_max x y).toInt := by
  unfold al_max
  by_cases c : y ≤ x
  · rw [if_pos c]
    rw [al_le] at c
    exact ⟨⟨fun v hv => hv.elim (fun q => h.1 v q) (fun q => Int.le_trans (h'.1 v q) c), h.2.imp Or.inl id⟩, hx⟩
  · rw [if_neg c]
    rw [al_le] at c
    exact ⟨⟨fun v hv => hv.elim (fun q => Int.le_trans (h.1 v q) (by omega)) (fun q => h'.1 v q), h'.2.imp Or.inr id⟩, hy⟩
theorem al_U_lo {S : Int → Prop} (hb : ∀ v, S v → -400 ≤ v) {x : Int32} (h : al_U S x) : -100000 ≤ x.toInt := by
  rcases h.2 with q | q
  · have := hb _ q; omega
  · rw [q, al_nv]; omega
theorem al_U_one {S : Int → Prop} (hb : ∀ v, S v → -400 ≤ v) (hs : ∃ v, S v) {x y : Int32} (h1 : al_U S x) (h2 : al_U S y) : x = y := by
  obtain ⟨v, hv⟩ := hs
  have key : ∀ z : Int32, al_U S z → S z.toInt := by
    intro z hz
    rcases hz.2 with q | q
    · exact q
    · have a := hz.1 v hv
      have b := hb v hv
      rw [q, al_nv] at a
      omega
  have a := h1.1 _ (key y h2)
  have b := h2.1 _ (key x h1)
  exact al_eq.mpr (by omega)
/-- the greatest of k values that are greatest of sets -/
theorem al_U_mx {S : Int → Prop} {T : Nat → Int → Prop} {f : Nat → Int32} {x : Int32} (h0 : al_U S x) (h1 : -100000 ≤ x.toInt) : ∀ k : Nat, (∀ j, j < k → al_U (T j) (f j) ∧ -100000 ≤ (f j).toInt) → al_U (fun v => S v ∨ ∃ j, j < k ∧ T j v) (al_mx f x k) ∧ -100000 ≤ (al_mx f x k).toInt := by
  intro k
  induction k with
  | zero =>
    intro _
    exact ⟨al_U_cong (fun v => ⟨Or.inl, fun q => q.elim id (fun ⟨j, hj, _⟩ => absurd hj (Nat.not_lt_zero j))⟩) h0, h1⟩
  | succ k ih =>
    intro h
    obtain ⟨a1, a2⟩ := ih (fun j hj => h j (by omega))
    obtain ⟨b1, b2⟩ := h k (by omega)
    obtain ⟨c1, c2⟩ := al_U_max a1 b1 a2 b2
    refine ⟨al_U_cong (fun v => ⟨?_, ?_⟩) c1, c2⟩
    · rintro ((q | ⟨j, hj, q⟩) | q)
      · exact Or.inl q
      · exact Or.inr ⟨j, by omega, q⟩
      · exact Or.inr ⟨k, by omega, q⟩
    · rintro (q | ⟨j, hj, q⟩)
      · exact Or.inl (Or.inl q)
      · by_cases e : j = k
        · rw [e] at q
          exact Or.inr q
        · exact Or.inl (Or.inr ⟨j, by omega, q⟩)
theorem al_U_mx2 {S : Int → Prop} {T : Nat → Nat → Int → Prop} {f : Nat → Nat → Int32} {x : Int32} {m : Nat} (h0 : al_U S x) (h1 : -100000 ≤ x.toInt) : ∀ k : Nat, (∀ i j, i < k → j < m → al_U (T i j) (f i j) ∧ -100000 ≤ (f i j).toInt) → al_U (fun v => S v ∨ ∃ i j, i < k ∧ j < m ∧ T i j v) (al_mx2 f m x k) ∧ -100000 ≤ (al_mx2 f m x k).toInt := by
  intro k
  induction k with
  | zero =>
    intro _
    exact ⟨al_U_cong (fun v => ⟨Or.inl, fun q => q.elim id (fun ⟨i, j, hi, _⟩ => absurd hi (Nat.not_lt_zero i))⟩) h0, h1⟩
  | succ k ih =>
    intro h
    obtain ⟨a1, a2⟩ := ih (fun i j hi hj => h i j (by omega) hj)
    obtain ⟨c1, c2⟩ := al_U_mx a1 a2 m (fun j hj => h k j (by omega) hj)
    refine ⟨al_U_cong (fun v => ⟨?_, ?_⟩) c1, c2⟩
    · rintro ((q | ⟨i, j, hi, hj, q⟩) | ⟨j, hj, q⟩)
      · exact Or.inl q
      · exact Or.inr ⟨i, j, by omega, hj, q⟩
      · exact Or.inr ⟨k, j, by omega, hj, q⟩
    · rintro (q | ⟨i, j, hi, hj, q⟩)
      · exact Or.inl (Or.inl q)
      · by_cases e : i = k
        · rw [e] at q
          exact Or.inr ⟨j, hj, q⟩
        · exact Or.inl (Or.inr ⟨i, j, by omega, hj, q⟩)
end
section
/-! PURE: the component's tables from the front hold al_F -/
def al_ok (ge gu op le : Int32) : Prop := (-9 ≤ ge.toInt ∧ ge.toInt ≤ 9) ∧ (-9 ≤ gu.toInt ∧ gu.toInt ≤ 9) ∧ (0 ≤ op.toInt ∧ op.toInt ≤ 9) ∧ (0 ≤ le.toInt ∧ le.toInt ≤ 9)
abbrev al_g (lt : Nat → Int32) (ge gu : Int32) : Nat → Nat → Int := fun i j => (x_gain lt ge gu i j).toInt
abbrev al_Fx (lt : Nat → Int32) (ge gu op le : Int32) (fd : Nat) : Nat → Nat → Nat → Int → Nat := al_F (al_g lt ge gu) op.toInt le.toInt (x_may fd) 20
section FRONT
variable {lt : Nat → Int32} {ge gu op le : Int32}
theorem al_g_bd (ok : al_ok ge gu op le) (i j : Nat) : -9 ≤ al_g lt ge gu i j ∧ al_g lt ge gu i j ≤ 9 := by
  obtain ⟨h1, h2, -⟩ := ok
  show -9 ≤ (x_gain lt ge gu i j).toInt ∧ (x_gain lt ge gu i j).toInt ≤ 9
  unfold x_gain
  split
  · exact h1
  · exact h2
theorem x_cost_0 (t : Nat) : (x_cost op le t 0).toInt = 0 := al_z
theorem x_cost_c (ok : al_ok ge gu op le) {t s : Nat} (h : s ≠ 0) : (x_cost op le t s).toInt = al_c op.toInt le.toInt t s := by
  obtain ⟨-, -, h3, h4⟩ := ok
  unfold x_cost al_c
  rw [if_neg h]
  by_cases e : t = s
  · rw [if_pos e, if_pos e]
  · rw [if_neg e, if_neg e, fb_addI (by omega) (by omega)]
theorem al_c_bd (ok : al_ok ge gu op le) (t s : Nat) : 0 ≤ al_c op.toInt le.toInt t s ∧ al_c op.toInt le.toInt t s ≤ 18 := by
  obtain ⟨-, -, h3, h4⟩ := ok
  unfold al_c
  split <;> omega
theorem al_B_le {f h : Int → Nat} (hb : al_B h) (hl : ∀ v, f v ≤ h v) : al_B f := fun v hv => hb v (Nat.lt_of_lt_of_le hv (hl v))
theorem x_exs_R {gn : Int32} {cell frm sort k : Nat} {t : al_T} {f F : Int → Nat} {e : Int} (hF : al_R F (t.1 (121 * k + frm)) (t.2 (121 * k + frm))) (hFb : al_B F) (he : e = (x_cost op le k sort).toInt - gn.toInt) (hc : 0 ≤ (x_cost op le k sort).toInt ∧ (x_cost op le k sort).toInt ≤ 18) (hg : -9 ≤ gn.toInt ∧ gn.toInt ≤ 9)
    (h0 : al_R f (t.1 (121 * sort + cell)) (t.2 (121 * sort + cell))) (hb : al_B f) :
    al_R (fun v => f v + F (v + e)) ((x_exs op le gn cell frm sort k t).1 (121 * sort + cell)) ((x_exs op le gn cell frm sort k t).2 (121 * sort + cell)) ∧ ∀ j, j ≠ 121 * sort + cell → (x_exs op le gn cell frm sort k t).1 j = t.1 j ∧ (x_exs op le gn cell frm sort k t).2 j = t.2 j := by
  rcases hF with ⟨g1, g2, -⟩ | hX
  · have ex : x_exs op le gn cell frm sort k t = t := if_neg (by rw [g2]; decide +kernel)
    rw [ex]
    exact ⟨al_R_cong (fun v => by rw [g1, Nat.add_zero]) h0, fun j _ => ⟨rfl, rfl⟩⟩
  · have hx := al_X_bd hFb hX
    have ex : x_exs op le gn cell frm sort k t = x_off t (121 * sort + cell) (t.1 (121 * k + frm) + gn - x_cost op le k sort) (t.2 (121 * k + frm)) := if_pos (al_lt.mpr (by rw [al_nv]; omega))
    have h1 : (t.1 (121 * k + frm) + gn).toInt = (t.1 (121 * k + frm)).toInt + gn.toInt := fb_addI (by omega) (by omega)
    have h2 : (t.1 (121 * k + frm) + gn - x_cost op le k sort).toInt = (t.1 (121 * k + frm)).toInt - e := by
      rw [fb_subI (by rw [h1]; omega) (by rw [h1]; omega), h1, he]
      omega
    rw [ex]
    exact ⟨x_off_R hb h0 (al_X_shift hX h2) (by rw [h2, he]; omega), fun j hj => x_off_ne hj⟩
theorem x_ext_R {gn : Int32} {cell frm sort : Nat} (hcf : cell ≠ frm) (hc : cell < 121) (hf : frm < 121) {t : al_T} {F : Nat → Int → Nat} {f0 : Int → Nat} {e : Nat → Int} (hF : ∀ k, k < 3 → al_R (F k) (t.1 (121 * k + frm)) (t.2 (121 * k + frm))) (hFb : ∀ k, k < 3 → al_B (F k))
    (he : ∀ k, k < 3 → e k = (x_cost op le k sort).toInt - gn.toInt ∧ 0 ≤ (x_cost op le k sort).toInt ∧ (x_cost op le k sort).toInt ≤ 18) (hg : -9 ≤ gn.toInt ∧ gn.toInt ≤ 9) (h0 : al_R f0 (t.1 (121 * sort + cell)) (t.2 (121 * sort + cell))) (hb : al_B (fun v => f0 v + F 0 (v + e 0) + F 1 (v + e 1) + F 2 (v + e 2))) :
    al_R (fun v => f0 v + F 0 (v + e 0) + F 1 (v + e 1) + F 2 (v + e 2)) ((x_ext op le gn cell frm sort 3 t).1 (121 * sort + cell)) ((x_ext op le gn cell frm sort 3 t).2 (121 * sort + cell)) ∧ ∀ j, j ≠ 121 * sort + cell → (x_ext op le gn cell frm sort 3 t).1 j = t.1 j ∧ (x_ext op le gn cell frm sort 3 t).2 j = t.2 j := by
  have e3 : x_ext op le gn cell frm sort 3 t = x_exs op le gn cell frm sort 2 (x_exs op le gn cell frm sort 1 (x_exs op le gn cell frm sort 0 t)) := rfl
  rw [e3]
  have n1 : 121 * 1 + frm ≠ 121 * sort + cell := by omega
  have n2 : 121 * 2 + frm ≠ 121 * sort + cell := by omega
  obtain ⟨a1, a2⟩ := x_exs_R (cell := cell) (sort := sort) (hF 0 (by decide)) (hFb 0 (by decide)) (he 0 (by decide)).1 (he 0 (by decide)).2 hg h0 (al_B_le hb (fun v => by omega))
  generalize x_exs op le gn cell frm sort 0 t = t1 at a1 a2 ⊢
  have f1 := hF 1 (by decide)
  rw [← (a2 _ n1).1, ← (a2 _ n1).2] at f1
  obtain ⟨b1, b2⟩ := x_exs_R (cell := cell) (sort := sort) f1 (hFb 1 (by decide)) (he 1 (by decide)).1 (he 1 (by decide)).2 hg a1 (al_B_le hb (fun v => by omega))
  generalize x_exs op le gn cell frm sort 1 t1 = t2 at b1 b2 ⊢
  have f2 := hF 2 (by decide)
  rw [← (a2 _ n2).1, ← (a2 _ n2).2, ← (b2 _ n2).1, ← (b2 _ n2).2] at f2
  obtain ⟨c1, c2⟩ := x_exs_R (cell := cell) (sort := sort) f2 (hFb 2 (by decide)) (he 2 (by decide)).1 (he 2 (by decide)).2 hg b1 (al_B_le hb (fun v => by omega))
  exact ⟨c1, fun j hj => ⟨by rw [(c2 j hj).1, (b2 j hj).1, (a2 j hj).1], by rw [(c2 j hj).2, (b2 j hj).2, (a2 j hj).2]⟩⟩
theorem x_ini_R {cell : Nat} (hc : cell < 121) (t : al_T) : (∀ s, s < 3 → al_R (fun _ => 0) ((x_ini cell 3 t).1 (121 * s + cell)) ((x_ini cell 3 t).2 (121 * s + cell))) ∧ ∀ j, (∀ s, s < 3 → j ≠ 121 * s + cell) → (x_ini cell 3 t).1 j = t.1 j ∧ (x_ini cell 3 t).2 j = t.2 j := by
  have e1 : (x_ini cell 3 t).1 = upd (upd (upd t.1 (121 * 0 + cell) (-100000)) (121 * 1 + cell) (-100000)) (121 * 2 + cell) (-100000) := rfl
  have e2 : (x_ini cell 3 t).2 = upd (upd (upd t.2 (121 * 0 + cell) (nI 0)) (121 * 1 + cell) (nI 0)) (121 * 2 + cell) (nI 0) := rfl
  rw [e1, e2]
  constructor
  · intro s hs
    have h3 : s = 0 ∨ s = 1 ∨ s = 2 := by omega
    refine Or.inl ⟨fun _ => rfl, ?_, ?_⟩
    · rcases h3 with rfl | rfl | rfl
      · rw [pk_un (by omega), pk_un (by omega), pk_us]
      · rw [pk_un (by omega), pk_us]
      · rw [pk_us]
    · rcases h3 with rfl | rfl | rfl
      · rw [pk_un (by omega), pk_un (by omega), pk_us]
      · rw [pk_un (by omega), pk_us]
      · rw [pk_us]
  · intro j hj
    have j0 := hj 0 (by decide)
    have j1 := hj 1 (by decide)
    have j2 := hj 2 (by decide)
    exact ⟨by rw [pk_un j2, pk_un j1, pk_un j0], by rw [pk_un j2, pk_un j1, pk_un j0]⟩
theorem al_X_1 : al_X (fun v => if v = 0 then 1 else 0) (nI 0) (nI 1) := by
  refine ⟨?_, fun v hv => ?_, ?_⟩
  · show 0 < (if (nI 0).toInt = 0 then 1 else 0 : Nat)
    rw [if_pos al_z]; decide
  · rw [al_z] at hv
    exact if_neg (by omega)
  · show nI 1 = nI (if (nI 0).toInt = 0 then 1 else 0)
    rw [if_pos al_z]
theorem al_Fx_B (ok : al_ok ge gu op le) (fd i j s : Nat) : al_B (al_Fx lt ge gu op le fd i j s) := fun v hv => al_F_small (fun i j => al_g_bd ok i j) ok.2.2.1 ok.2.2.2 hv
theorem al_pre_0 {g : Nat → Nat → Int} {O L : Int} {f : Nat → Nat → Nat → Int → Nat} {i j : Nat} (h : 0 < i ∧ 0 < j) (v : Int) : al_pre g O L f i j 0 v = f (i - 1) (j - 1) 0 (v + -g (i - 1) (j - 1)) + f (i - 1) (j - 1) 1 (v + -g (i - 1) (j - 1)) + f (i - 1) (j - 1) 2 (v + -g (i - 1) (j - 1)) := by
  unfold al_pre; rw [if_pos rfl, if_pos h]
theorem al_pre_0n {g : Nat → Nat → Int} {O L : Int} {f : Nat → Nat → Nat → Int → Nat} {i j : Nat} (h : ¬ (0 < i ∧ 0 < j)) (v : Int) : al_pre g O L f i j 0 v = 0 := by
  unfold al_pre; rw [if_pos rfl, if_neg h]
theorem al_pre_1 {g : Nat → Nat → Int} {O L : Int} {f : Nat → Nat → Nat → Int → Nat} {i j : Nat} (h : 0 < i) (v : Int) : al_pre g O L f i j 1 v = f (i - 1) j 0 (v + al_c O L 0 1) + f (i - 1) j 1 (v + al_c O L 1 1) + f (i - 1) j 2 (v + al_c O L 2 1) := by
  unfold al_pre; rw [if_neg (by decide), if_pos rfl, if_pos h]
theorem al_pre_1n {g : Nat → Nat → Int} {O L : Int} {f : Nat → Nat → Nat → Int → Nat} {i j : Nat} (h : ¬ 0 < i) (v : Int) : al_pre g O L f i j 1 v = 0 := by
  unfold al_pre; rw [if_neg (by decide), if_pos rfl, if_neg h]
theorem al_pre_2 {g : Nat → Nat → Int} {O L : Int} {f : Nat → Nat → Nat → Int → Nat} {i j : Nat} (h : 0 < j) (v : Int) : al_pre g O L f i j 2 v = f i (j - 1) 0 (v + al_c O L 0 2) + f i (j - 1) 1 (v + al_c O L 1 2) + f i (j - 1) 2 (v + al_c O L 2 2) := by
  unfold al_pre; rw [if_neg (by decide), if_neg (by decide), if_pos rfl, if_pos h]
theorem al_pre_2n {g : Nat → Nat → Int} {O L : Int} {f : Nat → Nat → Nat → Int → Nat} {i j : Nat} (h : ¬ 0 < j) (v : Int) : al_pre g O L f i j 2 v = 0 := by
  unfold al_pre; rw [if_neg (by decide), if_neg (by decide), if_pos rfl, if_neg h]
theorem al_Fx_0 {fd i j : Nat} (h : i + j ≤ 20) (v : Int) : al_Fx lt ge gu op le fd i j 0 v = (if x_may fd i j = true ∧ v = 0 then 1 else 0) + al_pre (al_g lt ge gu) op.toInt le.toInt (al_Fx lt ge gu op le fd) i j 0 v := by
  have e := al_F_rec (g := al_g lt ge gu) (O := op.toInt) (L := le.toInt) (a := x_may fd) h 0 v
  refine e.trans ?_
  congr 1
  by_cases q : x_may fd i j = true ∧ v = 0
  · rw [if_pos q, if_pos ⟨q.1, rfl, q.2⟩]
  · rw [if_neg q, if_neg (fun z => q ⟨z.1, z.2.2⟩)]
theorem al_Fx_s {fd i j s : Nat} (h : i + j ≤ 20) (hs : s ≠ 0) (v : Int) : al_Fx lt ge gu op le fd i j s v = al_pre (al_g lt ge gu) op.toInt le.toInt (al_Fx lt ge gu op le fd) i j s v := by
  have e := al_F_rec (g := al_g lt ge gu) (O := op.toInt) (L := le.toInt) (a := x_may fd) h s v
  exact e.trans (by rw [if_neg (fun z => hs z.2.1), Nat.zero_add])
/-- one place -/
theorem x_cel_R (ok : al_ok ge gu op le) {fd i j : Nat} (hi : i ≤ 10) (hj : j ≤ 10) {t : al_T}
    (hU : 0 < i → ∀ s, s < 3 → al_R (al_Fx lt ge gu op le fd (i - 1) j s) (t.1 (121 * s + (11 * (i - 1) + j))) (t.2 (121 * s + (11 * (i - 1) + j))))
    (hW : 0 < j → ∀ s, s < 3 → al_R (al_Fx lt ge gu op le fd i (j - 1) s) (t.1 (121 * s + (11 * i + (j - 1)))) (t.2 (121 * s + (11 * i + (j - 1)))))
    (hG : 0 < i → 0 < j → ∀ s, s < 3 → al_R (al_Fx lt ge gu op le fd (i - 1) (j - 1) s) (t.1 (121 * s + (11 * (i - 1) + (j - 1)))) (t.2 (121 * s + (11 * (i - 1) + (j - 1))))) :
    (∀ s, s < 3 → al_R (al_Fx lt ge gu op le fd i j s) ((x_cel lt ge gu op le fd i j t).1 (121 * s + (11 * i + j))) ((x_cel lt ge gu op le fd i j t).2 (121 * s + (11 * i + j)))) ∧ ∀ k, (∀ s, s < 3 → k ≠ 121 * s + (11 * i + j)) → (x_cel lt ge gu op le fd i j t).1 k = t.1 k ∧ (x_cel lt ge gu op le fd i j t).2 k = t.2 k := by
  have hc : 11 * i + j < 121 := by omega
  have n01 : 121 * 0 + (11 * i + j) ≠ 121 * 1 + (11 * i + j) := by omega
  have n02 : 121 * 0 + (11 * i + j) ≠ 121 * 2 + (11 * i + j) := by omega
  have n10 : 121 * 1 + (11 * i + j) ≠ 121 * 0 + (11 * i + j) := by omega
  have n12 : 121 * 1 + (11 * i + j) ≠ 121 * 2 + (11 * i + j) := by omega
  have n20 : 121 * 2 + (11 * i + j) ≠ 121 * 0 + (11 * i + j) := by omega
  have n21 : 121 * 2 + (11 * i + j) ≠ 121 * 1 + (11 * i + j) := by omega
  obtain ⟨i1, i2⟩ := x_ini_R hc t
  -- the start
  have s2 : al_R (fun v => if x_may fd i j = true ∧ v = 0 then 1 else 0) ((x_c2 fd i j t).1 (121 * 0 + (11 * i + j))) ((x_c2 fd i j t).2 (121 * 0 + (11 * i + j))) ∧ ∀ k, k ≠ 121 * 0 + (11 * i + j) → (x_c2 fd i j t).1 k = (x_ini (11 * i + j) 3 t).1 k ∧ (x_c2 fd i j t).2 k = (x_ini (11 * i + j) 3 t).2 k := by
    by_cases hm : x_may fd i j = true
    · have e : x_c2 fd i j t = x_off (x_ini (11 * i + j) 3 t) (121 * 0 + (11 * i + j)) (nI 0) (nI 1) := if_pos hm
      rw [e]
      exact ⟨al_R_cong (fun v => by simp [hm]) (x_off_R (fun v hv => absurd hv (by decide)) (i1 0 (by decide)) al_X_1 (by rw [al_z]; decide)), fun k hk => x_off_ne hk⟩
    · have e : x_c2 fd i j t = x_ini (11 * i + j) 3 t := if_neg hm
      rw [e]
      exact ⟨al_R_cong (fun v => by simp [hm]) (i1 0 (by decide)), fun k _ => ⟨rfl, rfl⟩⟩
  obtain ⟨a1, a2⟩ := s2
  -- a place of the table that isn't this one is as it was
  have keep : ∀ k, (∀ s, s < 3 → k ≠ 121 * s + (11 * i + j)) → (x_c2 fd i j t).1 k = t.1 k ∧ (x_c2 fd i j t).2 k = t.2 k := fun k hk => by
    have q := a2 k (hk 0 (by decide))
    have r := i2 k hk
    exact ⟨q.1.trans r.1, q.2.trans r.2⟩
  have b1' : al_R (fun _ => 0) ((x_c2 fd i j t).1 (121 * 1 + (11 * i + j))) ((x_c2 fd i j t).2 (121 * 1 + (11 * i + j))) := by
    rw [(a2 _ n10).1, (a2 _ n10).2]; exact i1 1 (by decide)
  have b2' : al_R (fun _ => 0) ((x_c2 fd i j t).1 (121 * 2 + (11 * i + j))) ((x_c2 fd i j t).2 (121 * 2 + (11 * i + j))) := by
    rw [(a2 _ n20).1, (a2 _ n20).2]; exact i1 2 (by decide)
  -- pairs
  have s3 : al_R (al_Fx lt ge gu op le fd i j 0) ((x_c3 lt ge gu op le fd i j t).1 (121 * 0 + (11 * i + j))) ((x_c3 lt ge gu op le fd i j t).2 (121 * 0 + (11 * i + j))) ∧ ∀ k, k ≠ 121 * 0 + (11 * i + j) → (x_c3 lt ge gu op le fd i j t).1 k = (x_c2 fd i j t).1 k ∧ (x_c3 lt ge gu op le fd i j t).2 k = (x_c2 fd i j t).2 k := by
    by_cases h : 0 < i ∧ 0 < j
    · have e : x_c3 lt ge gu op le fd i j t = x_ext op le (x_gain lt ge gu (i - 1) (j - 1)) (11 * i + j) (11 * i + j - 11 - 1) 0 3 (x_c2 fd i j t) := if_pos h
      rw [e]
      have ec : 11 * i + j - 11 - 1 = 11 * (i - 1) + (j - 1) := by omega
      have ef : ∀ v, al_Fx lt ge gu op le fd i j 0 v = (if x_may fd i j = true ∧ v = 0 then 1 else 0) + al_Fx lt ge gu op le fd (i - 1) (j - 1) 0 (v + -al_g lt ge gu (i - 1) (j - 1)) + al_Fx lt ge gu op le fd (i - 1) (j - 1) 1 (v + -al_g lt ge gu (i - 1) (j - 1)) + al_Fx lt ge gu op le fd (i - 1) (j - 1) 2 (v + -al_g lt ge gu (i - 1) (j - 1)) := fun v => by
        rw [al_Fx_0 (by omega) v, al_pre_0 h]; omega
      have hg := al_g_bd (lt := lt) ok (i - 1) (j - 1)
      obtain ⟨r1, r2⟩ := x_ext_R (op := op) (le := le) (gn := x_gain lt ge gu (i - 1) (j - 1)) (cell := 11 * i + j) (frm := 11 * i + j - 11 - 1) (sort := 0) (by omega) hc (by omega) (t := x_c2 fd i j t) (F := al_Fx lt ge gu op le fd (i - 1) (j - 1)) (e := fun _ => -al_g lt ge gu (i - 1) (j - 1))
        (fun k hk => by
          have q := keep (121 * k + (11 * i + j - 11 - 1)) (fun s hs => by omega)
          rw [q.1, q.2, ec]
          exact hG h.1 h.2 k hk) (fun k _ => al_Fx_B ok fd _ _ k)
        (fun k _ => ⟨by rw [x_cost_0]; exact (Int.zero_sub _).symm, by rw [x_cost_0]; decide, by rw [x_cost_0]; decide⟩) hg a1 (by
          have q := al_Fx_B (lt := lt) ok fd i j 0
          exact al_B_le q (fun v => by rw [ef v]; exact Nat.le_refl _))
      exact ⟨al_R_cong (fun v => (ef v).symm) r1, r2⟩
    · have e : x_c3 lt ge gu op le fd i j t = x_c2 fd i j t := if_neg h
      rw [e]
      exact ⟨al_R_cong (fun v => by rw [al_Fx_0 (by omega) v, al_pre_0n h, Nat.add_zero]) a1, fun k _ => ⟨rfl, rfl⟩⟩
  obtain ⟨c1, c2⟩ := s3
  have keep3 : ∀ k, (∀ s, s < 3 → k ≠ 121 * s + (11 * i + j)) → (x_c3 lt ge gu op le fd i j t).1 k = t.1 k ∧ (x_c3 lt ge gu op le fd i j t).2 k = t.2 k := fun k hk => by
    have q := c2 k (hk 0 (by decide))
    have r := keep k hk
    exact ⟨q.1.trans r.1, q.2.trans r.2⟩
  have b1 : al_R (fun _ => 0) ((x_c3 lt ge gu op le fd i j t).1 (121 * 1 + (11 * i + j))) ((x_c3 lt ge gu op le fd i j t).2 (121 * 1 + (11 * i + j))) := by
    rw [(c2 _ n10).1, (c2 _ n10).2]; exact b1'
  have b2 : al_R (fun _ => 0) ((x_c3 lt ge gu op le fd i j t).1 (121 * 2 + (11 * i + j))) ((x_c3 lt ge gu op le fd i j t).2 (121 * 2 + (11 * i + j))) := by
    rw [(c2 _ n20).1, (c2 _ n20).2]; exact b2'
  -- upper gaps
  have s4 : al_R (al_Fx lt ge gu op le fd i j 1) ((x_c4 lt ge gu op le fd i j t).1 (121 * 1 + (11 * i + j))) ((x_c4 lt ge gu op le fd i j t).2 (121 * 1 + (11 * i + j))) ∧ ∀ k, k ≠ 121 * 1 + (11 * i + j) → (x_c4 lt ge gu op le fd i j t).1 k = (x_c3 lt ge gu op le fd i j t).1 k ∧ (x_c4 lt ge gu op le fd i j t).2 k = (x_c3 lt ge gu op le fd i j t).2 k := by
    by_cases h : 0 < i
    · have e : x_c4 lt ge gu op le fd i j t = x_ext op le (nI 0) (11 * i + j) (11 * i + j - 11) 1 3 (x_c3 lt ge gu op le fd i j t) := if_pos h
      rw [e]
      have ec : 11 * i + j - 11 = 11 * (i - 1) + j := by omega
      have ef : ∀ v, al_Fx lt ge gu op le fd i j 1 v = 0 + al_Fx lt ge gu op le fd (i - 1) j 0 (v + al_c op.toInt le.toInt 0 1) + al_Fx lt ge gu op le fd (i - 1) j 1 (v + al_c op.toInt le.toInt 1 1) + al_Fx lt ge gu op le fd (i - 1) j 2 (v + al_c op.toInt le.toInt 2 1) := fun v => by
        rw [al_Fx_s (by omega) (by decide) v, al_pre_1 h]; omega
      obtain ⟨r1, r2⟩ := x_ext_R (op := op) (le := le) (gn := nI 0) (cell := 11 * i + j) (frm := 11 * i + j - 11) (sort := 1) (by omega) hc (by omega) (t := x_c3 lt ge gu op le fd i j t) (F := al_Fx lt ge gu op le fd (i - 1) j) (e := fun k => al_c op.toInt le.toInt k 1)
        (fun k hk => by
          have q := keep3 (121 * k + (11 * i + j - 11)) (fun s hs => by omega)
          rw [q.1, q.2, ec]
          exact hU h k hk) (fun k _ => al_Fx_B ok fd _ _ k)
        (fun k _ => ⟨by rw [x_cost_c ok (by decide), al_z]; exact (Int.sub_zero _).symm, by rw [x_cost_c ok (by decide)]; exact (al_c_bd ok k 1).1, by rw [x_cost_c ok (by decide)]; exact (al_c_bd ok k 1).2⟩) (by rw [al_z]; decide) b1 (by
          have q := al_Fx_B (lt := lt) ok fd i j 1
          exact al_B_le q (fun v => by rw [ef v]; exact Nat.le_refl _))
      exact ⟨al_R_cong (fun v => (ef v).symm) r1, r2⟩
    · have e : x_c4 lt ge gu op le fd i j t = x_c3 lt ge gu op le fd i j t := if_neg h
      rw [e]
      exact ⟨al_R_cong (fun v => by rw [al_Fx_s (by omega) (by decide) v, al_pre_1n h]) b1, fun k _ => ⟨rfl, rfl⟩⟩
  obtain ⟨d1, d2⟩ := s4
  have keep4 : ∀ k, (∀ s, s < 3 → k ≠ 121 * s + (11 * i + j)) → (x_c4 lt ge gu op le fd i j t).1 k = t.1 k ∧ (x_c4 lt ge gu op le fd i j t).2 k = t.2 k := fun k hk => by
    have q := d2 k (hk 1 (by decide))
    have r := keep3 k hk
    exact ⟨q.1.trans r.1, q.2.trans r.2⟩
  have b3 : al_R (fun _ => 0) ((x_c4 lt ge gu op le fd i j t).1 (121 * 2 + (11 * i + j))) ((x_c4 lt ge gu op le fd i j t).2 (121 * 2 + (11 * i + j))) := by
    rw [(d2 _ n21).1, (d2 _ n21).2]; exact b2
  have d0 : al_R (al_Fx lt ge gu op le fd i j 0) ((x_c4 lt ge gu op le fd i j t).1 (121 * 0 + (11 * i + j))) ((x_c4 lt ge gu op le fd i j t).2 (121 * 0 + (11 * i + j))) := by
    rw [(d2 _ n01).1, (d2 _ n01).2]; exact c1
  -- lower gaps
  have s5 : al_R (al_Fx lt ge gu op le fd i j 2) ((x_cel lt ge gu op le fd i j t).1 (121 * 2 + (11 * i + j))) ((x_cel lt ge gu op le fd i j t).2 (121 * 2 + (11 * i + j))) ∧ ∀ k, k ≠ 121 * 2 + (11 * i + j) → (x_cel lt ge gu op le fd i j t).1 k = (x_c4 lt ge gu op le fd i j t).1 k ∧ (x_cel lt ge gu op le fd i j t).2 k = (x_c4 lt ge gu op le fd i j t).2 k := by
    by_cases h : 0 < j
    · have e : x_cel lt ge gu op le fd i j t = x_ext op le (nI 0) (11 * i + j) (11 * i + j - 1) 2 3 (x_c4 lt ge gu op le fd i j t) := if_pos h
      rw [e]
      have ec : 11 * i + j - 1 = 11 * i + (j - 1) := by omega
      have ef : ∀ v, al_Fx lt ge gu op le fd i j 2 v = 0 + al_Fx lt ge gu op le fd i (j - 1) 0 (v + al_c op.toInt le.toInt 0 2) + al_Fx lt ge gu op le fd i (j - 1) 1 (v + al_c op.toInt le.toInt 1 2) + al_Fx lt ge gu op le fd i (j - 1) 2 (v + al_c op.toInt le.toInt 2 2) := fun v => by
        rw [al_Fx_s (by omega) (by decide) v, al_pre_2 h]; omega
      obtain ⟨r1, r2⟩ := x_ext_R (op := op) (le := le) (gn := nI 0) (cell := 11 * i + j) (frm := 11 * i + j - 1) (sort := 2) (by omega) hc (by omega) (t := x_c4 lt ge gu op le fd i j t) (F := al_Fx lt ge gu op le fd i (j - 1)) (e := fun k => al_c op.toInt le.toInt k 2)
        (fun k hk => by
          have q := keep4 (121 * k + (11 * i + j - 1)) (fun s hs => by omega)
          rw [q.1, q.2, ec]
          exact hW h k hk) (fun k _ => al_Fx_B ok fd _ _ k)
        (fun k _ => ⟨by rw [x_cost_c ok (by decide), al_z]; exact (Int.sub_zero _).symm, by rw [x_cost_c ok (by decide)]; exact (al_c_bd ok k 2).1, by rw [x_cost_c ok (by decide)]; exact (al_c_bd ok k 2).2⟩) (by rw [al_z]; decide) b3 (by
          have q := al_Fx_B (lt := lt) ok fd i j 2
          exact al_B_le q (fun v => by rw [ef v]; exact Nat.le_refl _))
      exact ⟨al_R_cong (fun v => (ef v).symm) r1, r2⟩
    · have e : x_cel lt ge gu op le fd i j t = x_c4 lt ge gu op le fd i j t := if_neg h
      rw [e]
      exact ⟨al_R_cong (fun v => by rw [al_Fx_s (by omega) (by decide) v, al_pre_2n h]) b3, fun k _ => ⟨rfl, rfl⟩⟩
  obtain ⟨e1, e2⟩ := s5
  constructor
  · intro s hs
    have h3 : s = 0 ∨ s = 1 ∨ s = 2 := by omega
    rcases h3 with rfl | rfl | rfl
    · rw [(e2 _ n02).1, (e2 _ n02).2]; exact d0
    · rw [(e2 _ n12).1, (e2 _ n12).2]; exact d1
    · exact e1
  · intro k hk
    have q := e2 k (hk 2 (by decide))
    have r := keep4 k hk
    exact ⟨q.1.trans r.1, q.2.trans r.2⟩
/-- the places before row i0, and those of row i0 before j0, hold what is due -/
def x_Inv (lt : Nat → Int32) (ge gu op le : Int32) (fd m i0 j0 : Nat) (t : al_T) : Prop := ∀ i j, i ≤ 10 → j ≤ m → (i < i0 ∨ (i = i0 ∧ j < j0)) → ∀ s, s < 3 → al_R (al_Fx lt ge gu op le fd i j s) (t.1 (121 * s + (11 * i + j))) (t.2 (121 * s + (11 * i + j)))
theorem x_row_R (ok : al_ok ge gu op le) {fd m i : Nat} (hm : m ≤ 10) (hi : i ≤ 10) {t : al_T} (h : x_Inv lt ge gu op le fd m i 0 t) : ∀ j, j ≤ m + 1 → x_Inv lt ge gu op le fd m i j (x_row lt ge gu op le fd i j t) := by
  intro j
  induction j with
  | zero => intro _; exact h
  | succ j ih =>
    intro hj
    have hp := ih (by omega)
    show x_Inv lt ge gu op le fd m i (j + 1) (x_cel lt ge gu op le fd i j (x_row lt ge gu op le fd i j t))
    generalize x_row lt ge gu op le fd i j t = t1 at hp ⊢
    obtain ⟨a1, a2⟩ := x_cel_R (lt := lt) (fd := fd) ok hi (show j ≤ 10 by omega) (t := t1) (fun q s hs => hp (i - 1) j (by omega) (by omega) (by omega) s hs) (fun q s hs => hp i (j - 1) (by omega) (by omega) (by omega) s hs) (fun q q2 s hs => hp (i - 1) (j - 1) (by omega) (by omega) (by omega) s hs)
    intro i' j' hi' hj' hq s hs
    by_cases e : i' = i ∧ j' = j
    · obtain ⟨rfl, rfl⟩ := e
      exact a1 s hs
    · have r := a2 (121 * s + (11 * i' + j')) (fun s' hs' => by omega)
      rw [r.1, r.2]
      exact hp i' j' hi' hj' (by omega) s hs
theorem x_frt_R (ok : al_ok ge gu op le) {fd m : Nat} (hm : m ≤ 10) (t : al_T) : ∀ i, i ≤ 11 → x_Inv lt ge gu op le fd m i 0 (x_frt lt ge gu op le fd m i t) := by
  intro i
  induction i with
  | zero => intro _ i' j' _ _ hq; exact absurd hq (by omega)
  | succ i ih =>
    intro hi
    have h := x_row_R ok hm (show i ≤ 10 by omega) (ih (by omega)) (m + 1) (Nat.le_refl _)
    intro i' j' hi' hj' hq s hs
    exact h i' j' hi' hj' (by omega) s hs
theorem x_front_R (ok : al_ok ge gu op le) {fd n m : Nat} (hn : n ≤ 10) (hm : m ≤ 10) (t : al_T) {i j s : Nat} (hi : i ≤ n) (hj : j ≤ m) (hs : s < 3) : al_R (al_Fx lt ge gu op le fd i j s) ((x_frt lt ge gu op le fd m (n + 1) t).1 (121 * s + (11 * i + j))) ((x_frt lt ge gu op le fd m (n + 1) t).2 (121 * s + (11 * i + j))) :=
  x_frt_R ok hm t (n + 1) (by omega) i j (by omega) hj (by omega) s hs
theorem x_bat_U (ok : al_ok ge gu op le) {fd n m : Nat} (hn : n ≤ 10) (hm : m ≤ 10) (t : al_T) {i j : Nat} (hi : i ≤ n) (hj : j ≤ m) : al_U (fun v => ∃ s, s < 3 ∧ 0 < al_Fx lt ge gu op le fd i j s v) (x_bat (x_frt lt ge gu op le fd m (n + 1) t).1 i j) ∧ -100000 ≤ (x_bat (x_frt lt ge gu op le fd m (n + 1) t).1 i j).toInt := by
  have r0 := x_front_R (lt := lt) (fd := fd) ok hn hm t hi hj (show 0 < 3 by decide)
  have r1 := x_front_R (lt := lt) (fd := fd) ok hn hm t hi hj (show 1 < 3 by decide)
  have r2 := x_front_R (lt := lt) (fd := fd) ok hn hm t hi hj (show 2 < 3 by decide)
  rw [show 121 * 0 + (11 * i + j) = 11 * i + j by omega] at r0
  rw [show 121 * 1 + (11 * i + j) = 121 + (11 * i + j) by omega] at r1
  rw [show 121 * 2 + (11 * i + j) = 242 + (11 * i + j) by omega] at r2
  have b0 := (al_R_lo (al_Fx_B ok fd i j 0) r0).1
  have b1 := (al_R_lo (al_Fx_B ok fd i j 1) r1).1
  have b2 := (al_R_lo (al_Fx_B ok fd i j 2) r2).1
  obtain ⟨a1, a2⟩ := al_U_max (al_U_R r0) (al_U_R r1) b0 b1
  obtain ⟨c1, c2⟩ := al_U_max a1 (al_U_R r2) a2 b2
  refine ⟨al_U_cong (fun v => ⟨?_, ?_⟩) c1, c2⟩
  · rintro ((q | q) | q)
    · exact ⟨0, by decide, q⟩
    · exact ⟨1, by decide, q⟩
    · exact ⟨2, by decide, q⟩
  · rintro ⟨s, hs, q⟩
    have h3 : s = 0 ∨ s = 1 ∨ s = 2 := by omega
    rcases h3 with rfl | rfl | rfl
    · exact Or.inl (Or.inl q)
    · exact Or.inl (Or.inr q)
    · exact Or.inr q
end FRONT
end
section
/-! PURE: the reference's tables hold al_Bx: alignments from a place on whose first gap isn't of the sort before -/
def m_b (how n m : Nat) (i j : Nat) : Bool := decide (i ≤ n ∧ j ≤ m ∧ ((i = n ∧ j = m) ∨ how = 1 ∨ (how = 2 ∧ i = n)))
theorem m_b_box {how n m : Nat} (i j : Nat) (h : m_b how n m i j = true) : i ≤ n ∧ j ≤ m := by
  have := of_decide_eq_true h
  exact ⟨this.1, this.2.1⟩
theorem m_b_end (how n m : Nat) : m_b how n m n m = true := decide_eq_true ⟨Nat.le_refl _, Nat.le_refl _, Or.inl ⟨rfl, rfl⟩⟩
theorem m_b_iff {how n m i j : Nat} (hi : i ≤ n) (hj : j ≤ m) : m_b how n m i j = true ↔ (i = n ∧ j = m) ∨ how = 1 ∨ (how = 2 ∧ i = n) :=
  ⟨fun h => (of_decide_eq_true h).2.2, fun h => decide_eq_true ⟨hi, hj, h⟩⟩
abbrev al_Dx (lt : Nat → Int32) (ge gu op le : Int32) (how n m : Nat) : Nat → Nat → Nat → Int → Nat := al_D (al_g lt ge gu) op.toInt le.toInt (m_b how n m) 20
def al_Bx (lt : Nat → Int32) (ge gu op le : Int32) (how n m la i j : Nat) (v : Int) : Nat :=
  (if m_b how n m i j = true ∧ v = 0 then 1 else 0) + al_Dx lt ge gu op le how n m (i + 1) (j + 1) 0 (v + -al_g lt ge gu i j) + (if la = 1 then 0 else al_Dx lt ge gu op le how n m (i + 1) j 1 (v + (op.toInt + le.toInt))) + (if la = 2 then 0 else al_Dx lt ge gu op le how n m i (j + 1) 2 (v + (op.toInt + le.toInt)))
theorem al_Bx_eq (lt : Nat → Int32) (ge gu op le : Int32) (how n m la i j : Nat) (v : Int) : al_Bx lt ge gu op le how n m la i j v = (if m_b how n m i j = true ∧ v = 0 then 1 else 0) + al_Dx lt ge gu op le how n m (i + 1) (j + 1) 0 (v + -al_g lt ge gu i j) + (if la = 1 then 0 else al_Dx lt ge gu op le how n m (i + 1) j 1 (v + (op.toInt + le.toInt))) + (if la = 2 then 0 else al_Dx lt ge gu op le how n m i (j + 1) 2 (v + (op.toInt + le.toInt))) := rfl
/-- k lengthenings -/
def al_kl (L : Int) : Nat → Int
  | 0 => 0
  | k + 1 => al_kl L k + L
theorem al_kl_mul (L : Int) : ∀ k : Nat, al_kl L k = (k : Int) * L := by
  intro k
  induction k with
  | zero => simp [al_kl]
  | succ k ih => rw [al_kl, ih, Int.natCast_add, Int.add_mul]; simp
theorem al_kl_bd {L : Int} (h : 0 ≤ L ∧ L ≤ 9) : ∀ k : Nat, 0 ≤ al_kl L k ∧ al_kl L k ≤ 9 * k := by
  intro k
  induction k with
  | zero => simp [al_kl]
  | succ k ih => rw [al_kl]; omega
/-- gaps of 1 .. k columns -/
def al_P (fam : Nat → Int → Nat) (O L : Int) : Nat → Int → Nat
  | 0, _ => 0
  | k + 1, v => al_P fam O L k v + fam k (v + (O + al_kl L (k + 1)))
theorem al_P_D {fam Dn : Nat → Int → Nat} {O L : Int} (h : ∀ k w, fam k w + Dn (k + 2) (w + L) = Dn (k + 1) w) : ∀ (k : Nat) (v : Int), al_P fam O L k v + Dn (k + 1) (v + (O + al_kl L (k + 1))) = Dn 1 (v + (O + L)) := by
  intro k
  induction k with
  | zero => intro v; simp [al_P, al_kl]
  | succ k ih =>
    intro v
    have e : v + (O + al_kl L (k + 1 + 1)) = v + (O + al_kl L (k + 1)) + L := by
      rw [show al_kl L (k + 1 + 1) = al_kl L (k + 1) + L from rfl]; omega
    rw [e, ← ih v, ← h k, show al_P fam O L (k + 1) v = al_P fam O L k v + fam k (v + (O + al_kl L (k + 1))) from rfl]
    exact Nat.add_assoc _ _ _
/-- the reference's two gap loops, told as one -/
def m_gg (op le : Int32) (cell : Nat) (idx : Nat → Nat) : Nat → al_T → al_T
  | 0, t => t
  | k + 1, t => m_off (m_gg op le cell idx k t) cell ((m_gg op le cell idx k t).1 (idx k) - op - nI (k + 1) * le) ((m_gg op le cell idx k t).2 (idx k))
theorem m_g1_gg (op le : Int32) (i j cell : Nat) (t : al_T) : ∀ k, m_g1 op le i j cell k t = m_gg op le cell (fun k => ((i + (k + 1)) * 11 + j) * 3 + 1) k t := by
  intro k
  induction k with
  | zero => rfl
  | succ k ih => rw [m_g1, m_gg, ih]
theorem m_g2_gg (op le : Int32) (i j cell : Nat) (t : al_T) : ∀ k, m_g2 op le i j cell k t = m_gg op le cell (fun k => (i * 11 + j + (k + 1)) * 3 + 2) k t := by
  intro k
  induction k with
  | zero => rfl
  | succ k ih => rw [m_g2, m_gg, ih]
section MODEL
variable {lt : Nat → Int32} {ge gu op le : Int32}
theorem al_mulk (ok : al_ok ge gu op le) {k : Nat} (hk : k ≤ 20) : (nI k * le).toInt = al_kl le.toInt k := by
  have h := al_kl_bd ok.2.2.2 k
  have e : (nI k).toInt * le.toInt = al_kl le.toInt k := by rw [al_kl_mul, nI_toInt (by omega)]
  rw [fb_mulI (by rw [e]; omega) (by rw [e]; omega), e]
theorem m_gap_O (ok : al_ok ge gu op le) {B : Int → Nat} (hB : al_B B) {x u : Int32} {k : Nat} (hk : k ≤ 20) (h : al_R B x u) : al_O (fun v => B (v + (op.toInt + al_kl le.toInt k))) (x - op - nI k * le) u := by
  have hl := al_R_lo hB h
  have hm := al_mulk ok hk
  have hb := al_kl_bd ok.2.2.2 k
  have ho := ok.2.2.1
  have e1 : (x - op).toInt = x.toInt - op.toInt := fb_subI (by omega) (by omega)
  have e2 : (x - op - nI k * le).toInt = x.toInt - (op.toInt + al_kl le.toInt k) := by
    rw [fb_subI (by rw [e1, hm]; omega) (by rw [e1, hm]; omega), e1, hm]; omega
  rcases h with ⟨h1, h2, -⟩ | hX
  · refine Or.inl ⟨fun v => h1 _, ?_⟩
    rw [e2, h2, al_nv]; omega
  · have := al_X_bd hB hX
    exact Or.inr ⟨al_X_shift hX e2, by rw [e2]; omega⟩
theorem m_gg_R (ok : al_ok ge gu op le) {cell : Nat} {idx : Nat → Nat} {fam : Nat → Int → Nat} {f : Int → Nat} {N : Nat} (hN : N ≤ 10) {t : al_T} (hx : ∀ k, k < N → idx k ≠ cell) (hF : ∀ k, k < N → al_R (fam k) (t.1 (idx k)) (t.2 (idx k))) (hFb : ∀ k, k < N → al_B (fam k)) (h0 : al_R f (t.1 cell) (t.2 cell)) (hb : ∀ k, k ≤ N → al_B (fun v => f v + al_P fam op.toInt le.toInt k v)) :
    ∀ k, k ≤ N → al_R (fun v => f v + al_P fam op.toInt le.toInt k v) ((m_gg op le cell idx k t).1 cell) ((m_gg op le cell idx k t).2 cell) ∧ ∀ j, j ≠ cell → (m_gg op le cell idx k t).1 j = t.1 j ∧ (m_gg op le cell idx k t).2 j = t.2 j := by
  intro k
  induction k with
  | zero => intro _; exact ⟨h0, fun j _ => ⟨rfl, rfl⟩⟩
  | succ k ih =>
    intro hk
    obtain ⟨a1, a2⟩ := ih (by omega)
    rw [m_gg]
    have hf := hF k (by omega)
    rw [← (a2 _ (hx k (by omega))).1, ← (a2 _ (hx k (by omega))).2] at hf
    have ho := m_gap_O ok (hFb k (by omega)) (show k + 1 ≤ 20 by omega) hf
    refine ⟨al_R_cong (fun v => ?_) (m_off_R (hb k (by omega)) a1 ho), fun j hj => ?_⟩
    · show f v + al_P fam op.toInt le.toInt k v + fam k (v + (op.toInt + al_kl le.toInt (k + 1))) = f v + (al_P fam op.toInt le.toInt k v + fam k (v + (op.toInt + al_kl le.toInt (k + 1))))
      omega
    · have q := m_off_ne (t := m_gg op le cell idx k t) (y := (m_gg op le cell idx k t).1 (idx k) - op - nI (k + 1) * le) (u := (m_gg op le cell idx k t).2 (idx k)) hj
      exact ⟨q.1.trans (a2 j hj).1, q.2.trans (a2 j hj).2⟩
variable {how n m : Nat}
theorem al_Dx_rec (hnm : n + m ≤ 20) (i j s : Nat) (v : Int) : al_Dx lt ge gu op le how n m i j s v = (if m_b how n m i j = true ∧ v = 0 then 1 else 0) + (al_Dx lt ge gu op le how n m (i + 1) (j + 1) 0 (v + -al_g lt ge gu i j) + al_Dx lt ge gu op le how n m (i + 1) j 1 (v + al_c op.toInt le.toInt s 1) + al_Dx lt ge gu op le how n m i (j + 1) 2 (v + al_c op.toInt le.toInt s 2)) := al_D_rec m_b_box hnm i j s v
theorem al_Dx_out {i j s : Nat} (h : n < i ∨ m < j) (v : Int) : al_Dx lt ge gu op le how n m i j s v = 0 := al_D_out m_b_box 20 i j s v h
theorem al_Dx_B (ok : al_ok ge gu op le) (how n m : Nat) {i j s : Nat} (hs : s < 3) : al_B (al_Dx lt ge gu op le how n m i j s) := fun v hv => al_D_small (fun i j => al_g_bd ok i j) ok.2.2.1 ok.2.2.2 hs hv
theorem al_Dx_some (hnm : n + m ≤ 20) {i j : Nat} (s : Nat) (hi : i ≤ n) (hj : j ≤ m) : ∃ v, 0 < al_Dx lt ge gu op le how n m i j s v := al_D_some m_b_box hnm (m_b_end how n m) _ i j s hi hj rfl
theorem al_Bx_0 (hnm : n + m ≤ 20) (i j : Nat) (v : Int) : al_Bx lt ge gu op le how n m 0 i j v = al_Dx lt ge gu op le how n m i j 0 v := by
  rw [al_Dx_rec hnm i j 0 v, al_Bx_eq, if_neg (show ¬ (0 : Nat) = 1 by decide), if_neg (show ¬ (0 : Nat) = 2 by decide)]
  have e1 : al_c op.toInt le.toInt 0 1 = op.toInt + le.toInt := if_neg (by decide)
  have e2 : al_c op.toInt le.toInt 0 2 = op.toInt + le.toInt := if_neg (by decide)
  rw [e1, e2]
  omega
theorem al_Bx_1 (hnm : n + m ≤ 20) (i j : Nat) (v : Int) : al_Bx lt ge gu op le how n m 1 i j v + al_Dx lt ge gu op le how n m (i + 1) j 1 (v + le.toInt) = al_Dx lt ge gu op le how n m i j 1 v := by
  rw [al_Dx_rec hnm i j 1 v, al_Bx_eq, if_pos (show (1 : Nat) = 1 from rfl), if_neg (show ¬ (1 : Nat) = 2 by decide)]
  have e1 : al_c op.toInt le.toInt 1 1 = le.toInt := if_pos rfl
  have e2 : al_c op.toInt le.toInt 1 2 = op.toInt + le.toInt := if_neg (by decide)
  rw [e1, e2]
  omega
theorem al_Bx_2 (hnm : n + m ≤ 20) (i j : Nat) (v : Int) : al_Bx lt ge gu op le how n m 2 i j v + al_Dx lt ge gu op le how n m i (j + 1) 2 (v + le.toInt) = al_Dx lt ge gu op le how n m i j 2 v := by
  rw [al_Dx_rec hnm i j 2 v, al_Bx_eq, if_neg (show ¬ (2 : Nat) = 1 by decide), if_pos (show (2 : Nat) = 2 from rfl)]
  have e1 : al_c op.toInt le.toInt 2 1 = op.toInt + le.toInt := if_neg (by decide)
  have e2 : al_c op.toInt le.toInt 2 2 = le.toInt := if_pos rfl
  rw [e1, e2]
  omega
theorem al_Bx_le (hnm : n + m ≤ 20) (la i j : Nat) (v : Int) : al_Bx lt ge gu op le how n m la i j v ≤ al_Dx lt ge gu op le how n m i j 0 v := by
  rw [← al_Bx_0 hnm, al_Bx_eq, al_Bx_eq, if_neg (show ¬ (0 : Nat) = 1 by decide), if_neg (show ¬ (0 : Nat) = 2 by decide)]
  by_cases h1 : la = 1
  · rw [if_pos h1]
    by_cases h2 : la = 2
    · rw [if_pos h2]; omega
    · rw [if_neg h2]; omega
  · rw [if_neg h1]
    by_cases h2 : la = 2
    · rw [if_pos h2]; omega
    · rw [if_neg h2]; exact Nat.le_refl _
theorem al_Bx_B (ok : al_ok ge gu op le) (hnm : n + m ≤ 20) (la i j : Nat) : al_B (al_Bx lt ge gu op le how n m la i j) := al_B_le (al_Dx_B ok how n m (show 0 < 3 by decide)) (fun v => al_Bx_le hnm la i j v)
/-- gaps in the upper sequence: all of them are D's -/
theorem al_P1 (hnm : n + m ≤ 20) (i j : Nat) (k : Nat) (v : Int) : al_P (fun k => al_Bx lt ge gu op le how n m 1 (i + (k + 1)) j) op.toInt le.toInt k v + al_Dx lt ge gu op le how n m (i + (k + 1)) j 1 (v + (op.toInt + al_kl le.toInt (k + 1))) = al_Dx lt ge gu op le how n m (i + 1) j 1 (v + (op.toInt + le.toInt)) :=
  al_P_D (Dn := fun k => al_Dx lt ge gu op le how n m (i + k) j 1) (fun k w => al_Bx_1 hnm (i + (k + 1)) j w) k v
theorem al_P2 (hnm : n + m ≤ 20) (i j : Nat) (k : Nat) (v : Int) : al_P (fun k => al_Bx lt ge gu op le how n m 2 i (j + (k + 1))) op.toInt le.toInt k v + al_Dx lt ge gu op le how n m i (j + (k + 1)) 2 (v + (op.toInt + al_kl le.toInt (k + 1))) = al_Dx lt ge gu op le how n m i (j + 1) 2 (v + (op.toInt + le.toInt)) :=
  al_P_D (Dn := fun k => al_Dx lt ge gu op le how n m i (j + k) 2) (fun k w => al_Bx_2 hnm i (j + (k + 1)) w) k v
/-- one place -/
theorem m_fil_R (ok : al_ok ge gu op le) (hn : n ≤ 10) (hm : m ≤ 10) {i j la : Nat} (hi : i ≤ n) (hj : j ≤ m) (hla : la < 3) {t : al_T}
    (hG : i < n → j < m → al_R (al_Bx lt ge gu op le how n m 0 (i + 1) (j + 1)) (t.1 (((i + 1) * 11 + (j + 1)) * 3 + 0)) (t.2 (((i + 1) * 11 + (j + 1)) * 3 + 0)))
    (hU : ∀ k, i + (k + 1) ≤ n → al_R (al_Bx lt ge gu op le how n m 1 (i + (k + 1)) j) (t.1 (((i + (k + 1)) * 11 + j) * 3 + 1)) (t.2 (((i + (k + 1)) * 11 + j) * 3 + 1)))
    (hW : ∀ k, j + (k + 1) ≤ m → al_R (al_Bx lt ge gu op le how n m 2 i (j + (k + 1))) (t.1 ((i * 11 + (j + (k + 1))) * 3 + 2)) (t.2 ((i * 11 + (j + (k + 1))) * 3 + 2))) :
    al_R (al_Bx lt ge gu op le how n m la i j) ((m_fil lt ge gu op le how n m i j la t).1 ((i * 11 + j) * 3 + la)) ((m_fil lt ge gu op le how n m i j la t).2 ((i * 11 + j) * 3 + la)) ∧ ∀ k, k ≠ (i * 11 + j) * 3 + la → (m_fil lt ge gu op le how n m i j la t).1 k = t.1 k ∧ (m_fil lt ge gu op le how n m i j la t).2 k = t.2 k := by
  have hnm : n + m ≤ 20 := by omega
  have hcB := al_Bx_B (lt := lt) (how := how) ok hnm la i j
  have s1 : al_R (fun v => if m_b how n m i j = true ∧ v = 0 then 1 else 0) ((m_f1 how n m i j la t).1 ((i * 11 + j) * 3 + la)) ((m_f1 how n m i j la t).2 ((i * 11 + j) * 3 + la)) ∧ ∀ k, k ≠ (i * 11 + j) * 3 + la → (m_f1 how n m i j la t).1 k = t.1 k ∧ (m_f1 how n m i j la t).2 k = t.2 k := by
    have i1 : al_R (fun _ => 0) ((m_ini ((i * 11 + j) * 3 + la) t).1 ((i * 11 + j) * 3 + la)) ((m_ini ((i * 11 + j) * 3 + la) t).2 ((i * 11 + j) * 3 + la)) := Or.inl ⟨fun _ => rfl, pk_us, pk_us⟩
    have i2 : ∀ k, k ≠ (i * 11 + j) * 3 + la → (m_ini ((i * 11 + j) * 3 + la) t).1 k = t.1 k ∧ (m_ini ((i * 11 + j) * 3 + la) t).2 k = t.2 k := fun k hk => ⟨pk_un hk, pk_un hk⟩
    by_cases hc : (i = n ∧ j = m) ∨ how = 1 ∨ (how = 2 ∧ i = n)
    · have e : m_f1 how n m i j la t = m_off (m_ini ((i * 11 + j) * 3 + la) t) ((i * 11 + j) * 3 + la) (nI 0) (nI 1) := if_pos hc
      rw [e]
      have hb := (m_b_iff hi hj).mpr hc
      refine ⟨al_R_cong (fun v => by simp [hb]) (m_off_R (fun v hv => absurd hv (by decide)) i1 (Or.inr ⟨al_X_1, by rw [al_z]; decide⟩)), fun k hk => ?_⟩
      have q := m_off_ne (t := m_ini ((i * 11 + j) * 3 + la) t) (y := nI 0) (u := nI 1) hk
      exact ⟨q.1.trans (i2 k hk).1, q.2.trans (i2 k hk).2⟩
    · have e : m_f1 how n m i j la t = m_ini ((i * 11 + j) * 3 + la) t := if_neg hc
      rw [e]
      have hb : ¬ m_b how n m i j = true := fun q => hc ((m_b_iff hi hj).mp q)
      exact ⟨al_R_cong (fun v => by simp [hb]) i1, i2⟩
  obtain ⟨a1, a2⟩ := s1
  have s2 : al_R (fun v => (if m_b how n m i j = true ∧ v = 0 then 1 else 0) + al_Dx lt ge gu op le how n m (i + 1) (j + 1) 0 (v + -al_g lt ge gu i j)) ((m_f2 lt ge gu how n m i j la t).1 ((i * 11 + j) * 3 + la)) ((m_f2 lt ge gu how n m i j la t).2 ((i * 11 + j) * 3 + la)) ∧ ∀ k, k ≠ (i * 11 + j) * 3 + la → (m_f2 lt ge gu how n m i j la t).1 k = t.1 k ∧ (m_f2 lt ge gu how n m i j la t).2 k = t.2 k := by
    by_cases hc : i < n ∧ j < m
    · have e : m_f2 lt ge gu how n m i j la t = m_off (m_f1 how n m i j la t) ((i * 11 + j) * 3 + la) ((m_f1 how n m i j la t).1 (((i + 1) * 11 + j + 1) * 3) + x_gain lt ge gu i j) ((m_f1 how n m i j la t).2 (((i + 1) * 11 + j + 1) * 3)) := if_pos hc
      rw [e]
      have q := a2 (((i + 1) * 11 + j + 1) * 3) (by omega)
      have hg := hG hc.1 hc.2
      rw [show ((i + 1) * 11 + (j + 1)) * 3 + 0 = ((i + 1) * 11 + j + 1) * 3 by omega, ← q.1, ← q.2] at hg
      have hg := al_R_cong (al_Bx_0 hnm (i + 1) (j + 1)) hg
      have hX := al_X_of hg (al_Dx_some hnm 0 (by omega) (by omega))
      have hx := al_X_bd (al_Dx_B ok how n m (show 0 < 3 by decide)) hX
      have hgb := al_g_bd (lt := lt) ok i j
      have hgb : -9 ≤ (x_gain lt ge gu i j).toInt ∧ (x_gain lt ge gu i j).toInt ≤ 9 := hgb
      have e2 : ((m_f1 how n m i j la t).1 (((i + 1) * 11 + j + 1) * 3) + x_gain lt ge gu i j).toInt = ((m_f1 how n m i j la t).1 (((i + 1) * 11 + j + 1) * 3)).toInt - -(x_gain lt ge gu i j).toInt := by
        rw [fb_addI (by omega) (by omega)]; omega
      refine ⟨m_off_R (al_B_le hcB (fun v => by rw [al_Bx_eq]; omega)) a1 (Or.inr ⟨al_X_shift hX e2, by rw [e2]; omega⟩), fun k hk => ?_⟩
      have r := m_off_ne (t := m_f1 how n m i j la t) (y := (m_f1 how n m i j la t).1 (((i + 1) * 11 + j + 1) * 3) + x_gain lt ge gu i j) (u := (m_f1 how n m i j la t).2 (((i + 1) * 11 + j + 1) * 3)) hk
      exact ⟨r.1.trans (a2 k hk).1, r.2.trans (a2 k hk).2⟩
    · have e : m_f2 lt ge gu how n m i j la t = m_f1 how n m i j la t := if_neg hc
      rw [e]
      exact ⟨al_R_cong (fun v => by rw [al_Dx_out (by omega), Nat.add_zero]) a1, a2⟩
  obtain ⟨b1, b2⟩ := s2
  have s3 : al_R (fun v => (if m_b how n m i j = true ∧ v = 0 then 1 else 0) + al_Dx lt ge gu op le how n m (i + 1) (j + 1) 0 (v + -al_g lt ge gu i j) + (if la = 1 then 0 else al_Dx lt ge gu op le how n m (i + 1) j 1 (v + (op.toInt + le.toInt)))) ((m_f3 lt ge gu op le how n m i j la t).1 ((i * 11 + j) * 3 + la)) ((m_f3 lt ge gu op le how n m i j la t).2 ((i * 11 + j) * 3 + la)) ∧ ∀ k, k ≠ (i * 11 + j) * 3 + la → (m_f3 lt ge gu op le how n m i j la t).1 k = t.1 k ∧ (m_f3 lt ge gu op le how n m i j la t).2 k = t.2 k := by
    by_cases hc : la = 1
    · have e : m_f3 lt ge gu op le how n m i j la t = m_f2 lt ge gu how n m i j la t := if_pos hc
      rw [e]
      exact ⟨al_R_cong (fun v => by rw [if_pos hc]; exact (Nat.add_zero _).symm) b1, b2⟩
    · have e : m_f3 lt ge gu op le how n m i j la t = m_g1 op le i j ((i * 11 + j) * 3 + la) (n - i) (m_f2 lt ge gu how n m i j la t) := if_neg hc
      rw [e, m_g1_gg]
      have hP : ∀ k, k ≤ n - i → ∀ v, al_P (fun k => al_Bx lt ge gu op le how n m 1 (i + (k + 1)) j) op.toInt le.toInt k v ≤ al_Dx lt ge gu op le how n m (i + 1) j 1 (v + (op.toInt + le.toInt)) := fun k _ v => by
        have := al_P1 (lt := lt) (ge := ge) (gu := gu) (op := op) (le := le) (how := how) hnm i j k v
        omega
      obtain ⟨r1, r2⟩ := m_gg_R ok (cell := (i * 11 + j) * 3 + la) (idx := fun k => ((i + (k + 1)) * 11 + j) * 3 + 1) (fam := fun k => al_Bx lt ge gu op le how n m 1 (i + (k + 1)) j) (N := n - i) (by omega) (t := m_f2 lt ge gu how n m i j la t)
        (fun k hk => by show ((i + (k + 1)) * 11 + j) * 3 + 1 ≠ (i * 11 + j) * 3 + la; omega)
        (fun k hk => by
          have q := b2 (((i + (k + 1)) * 11 + j) * 3 + 1) (by omega)
          show al_R _ ((m_f2 lt ge gu how n m i j la t).1 (((i + (k + 1)) * 11 + j) * 3 + 1)) ((m_f2 lt ge gu how n m i j la t).2 (((i + (k + 1)) * 11 + j) * 3 + 1))
          rw [q.1, q.2]
          exact hU k (by omega)) (fun k _ => al_Bx_B ok hnm 1 _ _) b1
        (fun k hk => al_B_le hcB (fun v => by
          have := hP k hk v
          rw [al_Bx_eq lt ge gu op le how n m la i j v, if_neg hc]
          omega)) (n - i) (Nat.le_refl _)
      refine ⟨al_R_cong (fun v => ?_) r1, fun k hk => ⟨(r2 k hk).1.trans (b2 k hk).1, (r2 k hk).2.trans (b2 k hk).2⟩⟩
      have q := al_P1 (lt := lt) (ge := ge) (gu := gu) (op := op) (le := le) (how := how) hnm i j (n - i) v
      rw [al_Dx_out (by omega), Nat.add_zero] at q
      rw [q, if_neg hc]
  obtain ⟨c1, c2⟩ := s3
  by_cases hc : la = 2
  · have e : m_fil lt ge gu op le how n m i j la t = m_f3 lt ge gu op le how n m i j la t := if_pos hc
    rw [e]
    exact ⟨al_R_cong (fun v => by rw [al_Bx_eq lt ge gu op le how n m la i j v, if_pos hc]; exact (Nat.add_zero _).symm) c1, c2⟩
  · have e : m_fil lt ge gu op le how n m i j la t = m_g2 op le i j ((i * 11 + j) * 3 + la) (m - j) (m_f3 lt ge gu op le how n m i j la t) := if_neg hc
    rw [e, m_g2_gg]
    have hP : ∀ k, k ≤ m - j → ∀ v, al_P (fun k => al_Bx lt ge gu op le how n m 2 i (j + (k + 1))) op.toInt le.toInt k v ≤ al_Dx lt ge gu op le how n m i (j + 1) 2 (v + (op.toInt + le.toInt)) := fun k _ v => by
      have := al_P2 (lt := lt) (ge := ge) (gu := gu) (op := op) (le := le) (how := how) hnm i j k v
      omega
    obtain ⟨r1, r2⟩ := m_gg_R ok (cell := (i * 11 + j) * 3 + la) (idx := fun k => (i * 11 + j + (k + 1)) * 3 + 2) (fam := fun k => al_Bx lt ge gu op le how n m 2 i (j + (k + 1))) (N := m - j) (by omega) (t := m_f3 lt ge gu op le how n m i j la t)
      (fun k hk => by show (i * 11 + j + (k + 1)) * 3 + 2 ≠ (i * 11 + j) * 3 + la; omega)
      (fun k hk => by
        have q := c2 ((i * 11 + j + (k + 1)) * 3 + 2) (by omega)
        show al_R _ ((m_f3 lt ge gu op le how n m i j la t).1 ((i * 11 + j + (k + 1)) * 3 + 2)) ((m_f3 lt ge gu op le how n m i j la t).2 ((i * 11 + j + (k + 1)) * 3 + 2))
        rw [q.1, q.2, Nat.add_assoc]
        exact hW k (by omega)) (fun k _ => al_Bx_B ok hnm 2 _ _) c1
      (fun k hk => al_B_le hcB (fun v => by
        have := hP k hk v
        rw [al_Bx_eq lt ge gu op le how n m la i j v, if_neg hc]
        omega)) (m - j) (Nat.le_refl _)
    refine ⟨al_R_cong (fun v => ?_) r1, fun k hk => ⟨(r2 k hk).1.trans (c2 k hk).1, (r2 k hk).2.trans (c2 k hk).2⟩⟩
    have q := al_P2 (lt := lt) (ge := ge) (gu := gu) (op := op) (le := le) (how := how) hnm i j (m - j) v
    rw [al_Dx_out (by omega), Nat.add_zero] at q
    rw [q, al_Bx_eq lt ge gu op le how n m la i j v, if_neg hc]
/-- rows behind i, and in row i the places from c on, hold what is due -/
def m_Inv (lt : Nat → Int32) (ge gu op le : Int32) (how n m i c : Nat) (t : al_T) : Prop := ∀ i' j' la', i' ≤ n → j' ≤ m → la' < 3 → (i < i' ∨ (i' = i ∧ c ≤ 3 * j' + la')) → al_R (al_Bx lt ge gu op le how n m la' i' j') (t.1 ((i' * 11 + j') * 3 + la')) (t.2 ((i' * 11 + j') * 3 + la'))
theorem m_wrw_R (ok : al_ok ge gu op le) (hn : n ≤ 10) (hm : m ≤ 10) {i : Nat} (hi : i ≤ n) : ∀ (c : Nat), c ≤ (m + 1) * 3 → ∀ t : al_T, m_Inv lt ge gu op le how n m i c t → m_Inv lt ge gu op le how n m i 0 (m_wrw lt ge gu op le how n m i c t) := by
  intro c
  induction c with
  | zero => intro _ t h; exact h
  | succ c ih =>
    intro hc t h
    show m_Inv lt ge gu op le how n m i 0 (m_wrw lt ge gu op le how n m i c (m_fil lt ge gu op le how n m i (c / 3) (c % 3) t))
    refine ih (by omega) _ ?_
    obtain ⟨a1, a2⟩ := m_fil_R (lt := lt) (how := how) ok hn hm hi (show c / 3 ≤ m by omega) (show c % 3 < 3 by omega) (t := t)
      (fun q1 q2 => h (i + 1) (c / 3 + 1) 0 (by omega) (by omega) (by omega) (by omega))
      (fun k q => h (i + (k + 1)) (c / 3) 1 (by omega) (by omega) (by omega) (by omega))
      (fun k q => h i (c / 3 + (k + 1)) 2 (by omega) (by omega) (by omega) (by omega))
    intro i' j' la' hi' hj' hla' hq
    by_cases e : i' = i ∧ j' = c / 3 ∧ la' = c % 3
    · obtain ⟨rfl, rfl, rfl⟩ := e
      exact a1
    · have r := a2 ((i' * 11 + j') * 3 + la') (by omega)
      rw [r.1, r.2]
      exact h i' j' la' hi' hj' hla' (by omega)
theorem m_wrk_R (ok : al_ok ge gu op le) (hn : n ≤ 10) (hm : m ≤ 10) : ∀ (k : Nat), k ≤ n + 1 → ∀ t : al_T, (∀ i' j' la', i' ≤ n → j' ≤ m → la' < 3 → k ≤ i' → al_R (al_Bx lt ge gu op le how n m la' i' j') (t.1 ((i' * 11 + j') * 3 + la')) (t.2 ((i' * 11 + j') * 3 + la'))) →
    ∀ i' j' la', i' ≤ n → j' ≤ m → la' < 3 → al_R (al_Bx lt ge gu op le how n m la' i' j') ((m_wrk lt ge gu op le how n m k t).1 ((i' * 11 + j') * 3 + la')) ((m_wrk lt ge gu op le how n m k t).2 ((i' * 11 + j') * 3 + la')) := by
  intro k
  induction k with
  | zero => intro _ t h i' j' la' h1 h2 h3; exact h i' j' la' h1 h2 h3 (by omega)
  | succ k ih =>
    intro hk t h
    show ∀ i' j' la', i' ≤ n → j' ≤ m → la' < 3 → al_R (al_Bx lt ge gu op le how n m la' i' j') ((m_wrk lt ge gu op le how n m k (m_wrw lt ge gu op le how n m k ((m + 1) * 3) t)).1 ((i' * 11 + j') * 3 + la')) ((m_wrk lt ge gu op le how n m k (m_wrw lt ge gu op le how n m k ((m + 1) * 3) t)).2 ((i' * 11 + j') * 3 + la'))
    refine ih (by omega) _ ?_
    have h2 := m_wrw_R (lt := lt) (how := how) ok hn hm (show k ≤ n by omega) ((m + 1) * 3) (Nat.le_refl _) t (fun i' j' la' a1 a2 a3 a4 => h i' j' la' a1 a2 a3 (by omega))
    intro i' j' la' a1 a2 a3 a4
    exact h2 i' j' la' a1 a2 a3 (by omega)
/-- after work -/
theorem m_work_R (ok : al_ok ge gu op le) (hn : n ≤ 10) (hm : m ≤ 10) (t : al_T) {i j la : Nat} (hi : i ≤ n) (hj : j ≤ m) (hla : la < 3) : al_R (al_Bx lt ge gu op le how n m la i j) ((m_wrk lt ge gu op le how n m (n + 1) t).1 ((i * 11 + j) * 3 + la)) ((m_wrk lt ge gu op le how n m (n + 1) t).2 ((i * 11 + j) * 3 + la)) :=
  m_wrk_R ok hn hm (n + 1) (Nat.le_refl _) t (fun i' j' la' h1 h2 h3 h4 => absurd h4 (by omega)) i j la hi hj hla
theorem m_work_X (ok : al_ok ge gu op le) (hn : n ≤ 10) (hm : m ≤ 10) (t : al_T) {i j : Nat} (hi : i ≤ n) (hj : j ≤ m) : al_X (al_Dx lt ge gu op le how n m i j 0) ((m_wrk lt ge gu op le how n m (n + 1) t).1 ((i * 11 + j) * 3)) ((m_wrk lt ge gu op le how n m (n + 1) t).2 ((i * 11 + j) * 3)) :=
  al_X_of (al_R_cong (al_Bx_0 (by omega) i j) (m_work_R (la := 0) ok hn hm t hi hj (by decide))) (al_Dx_some (by omega) 0 hi hj)
end MODEL
end
section
/-! PURE: the table from behind, and the reference's rest, hold the greatest of al_Dx; both choose the same column -/
def al_m (f : Int → Nat) (x : Int32) : Prop := 0 < f x.toInt ∧ ∀ v, x.toInt < v → f v = 0
theorem al_m_one {f : Int → Nat} {x y : Int32} (h1 : al_m f x) (h2 : al_m f y) : x = y := (al_X_one (f := f) (x := x) (y := y) (w := nI (f x.toInt)) (u := nI (f y.toInt)) ⟨h1.1, h1.2, rfl⟩ ⟨h2.1, h2.2, rfl⟩).1
theorem al_X_m {f : Int → Nat} {x w : Int32} (h : al_X f x w) : al_m f x := ⟨h.1, h.2.1⟩
theorem al_m_cong {f h : Int → Nat} (e : ∀ v, f v = h v) {x : Int32} (hf : al_m f x) : al_m h x := by
  have : f = h := funext e
  rw [← this]; exact hf
/-- as al_U, with any far score where the set is empty -/
def al_V (S : Int → Prop) (x : Int32) : Prop := (∀ v, S v → v ≤ x.toInt) ∧ (S x.toInt ∨ x.toInt ≤ -100000)
theorem al_V_cong {S S' : Int → Prop} (e : ∀ v, S v ↔ S' v) {x : Int32} (h : al_V S x) : al_V S' x := ⟨fun v hv => h.1 v ((e v).mpr hv), h.2.imp (e _).mp id⟩
theorem al_V_max {S S' : Int → Prop} {x y : Int32} (h : al_V S x) (h' : al_V S' y) : al_V (fun v => S v ∨ S' v) (al_max x y) := by
  unfold al_max
  by_cases c : y ≤ x
  · rw [if_pos c]
    rw [al_le] at c
    exact ⟨fun v hv => hv.elim (fun q => h.1 v q) (fun q => Int.le_trans (h'.1 v q) c), h.2.imp Or.inl id⟩
  · rw [if_neg c]
    rw [al_le] at c
    exact ⟨fun v hv => hv.elim (fun q => Int.le_trans (h.1 v q) (by omega)) (fun q => h'.1 v q), h'.2.imp Or.inr id⟩
theorem al_V_mx {S : Int → Prop} {T : Nat → Int → Prop} {f : Nat → Int32} {x : Int32} (h0 : al_V S x) : ∀ k : Nat, (∀ j, j < k → al_V (T j) (f j)) → al_V (fun v => S v ∨ ∃ j, j < k ∧ T j v) (al_mx f x k) := by
  intro k
  induction k with
  | zero =>
    intro _
    exact al_V_cong (fun v => ⟨Or.inl, fun q => q.elim id (fun ⟨j, hj, _⟩ => absurd hj (Nat.not_lt_zero j))⟩) h0
  | succ k ih =>
    intro h
    refine al_V_cong (fun v => ⟨?_, ?_⟩) (al_V_max (ih (fun j hj => h j (by omega))) (h k (by omega)))
    · rintro ((q | ⟨j, hj, q⟩) | q)
      · exact Or.inl q
      · exact Or.inr ⟨j, by omega, q⟩
      · exact Or.inr ⟨k, by omega, q⟩
    · rintro (q | ⟨j, hj, q⟩)
      · exact Or.inl (Or.inl q)
      · by_cases e : j = k
        · rw [e] at q
          exact Or.inr q
        · exact Or.inl (Or.inr ⟨j, by omega, q⟩)
theorem al_V_m {f : Int → Nat} {x : Int32} (h : al_m f x) : al_V (fun v => 0 < f v) x := by
  refine ⟨fun v hv => ?_, Or.inl h.1⟩
  have hv : 0 < f v := hv
  rcases Int.lt_or_le x.toInt v with q | q
  · have := h.2 v q
    omega
  · exact q
theorem al_V_no {S : Int → Prop} {x : Int32} (hS : ∀ v, ¬ S v) (hx : x.toInt ≤ -100000) : al_V S x := ⟨fun v hv => absurd hv (hS v), Or.inr hx⟩
theorem al_V_R {f : Int → Nat} {x w : Int32} (h : al_R f x w) : al_V (fun v => 0 < f v) x := by
  rcases h with ⟨h1, h2, -⟩ | h
  · exact al_V_no (fun v hv => by have hv : 0 < f v := hv; rw [h1] at hv; exact absurd hv (by decide)) (by rw [h2, al_nv]; exact Int.le_refl _)
  · exact al_V_m (al_X_m h)
theorem al_m_V {f : Int → Nat} {x : Int32} (h : al_V (fun v => 0 < f v) x) (hb : al_B f) (hs : ∃ v, 0 < f v) : al_m f x := by
  obtain ⟨v, hv⟩ := hs
  have a := h.1 v hv
  have b := hb v hv
  have hx : 0 < f x.toInt := by
    rcases h.2 with q | q
    · exact q
    · omega
  refine ⟨hx, fun u hu => ?_⟩
  rcases Nat.eq_zero_or_pos (f u) with q | q
  · exact q
  · have := h.1 u q
    omega
theorem al_m_bd {f : Int → Nat} {x : Int32} (hb : al_B f) (h : al_m f x) : -400 ≤ x.toInt ∧ x.toInt ≤ 400 := hb _ h.1
section BEHIND
variable {lt : Nat → Int32} {ge gu op le : Int32} {n m : Nat}
theorem m_b0 {i j : Nat} : m_b 0 n m i j = true ↔ i = n ∧ j = m := by
  constructor
  · intro h
    have := of_decide_eq_true h
    omega
  · rintro ⟨rfl, rfl⟩
    exact m_b_end 0 _ _
/-- what restAfter works out, over a table whose later places are right -/
theorem x_rst_m (ok : al_ok ge gu op le) (hn : n ≤ 10) (hm : m ≤ 10) {b : Nat → Int32} {i j last : Nat} (hi : i ≤ n) (hj : j ≤ m) (hl : last < 3)
    (hG : i < n → j < m → al_m (al_Dx lt ge gu op le 0 n m (i + 1) (j + 1) 0) (b (121 * 0 + 11 * (i + 1) + (j + 1))))
    (hU : i < n → al_m (al_Dx lt ge gu op le 0 n m (i + 1) j 1) (b (121 * 1 + 11 * (i + 1) + j)))
    (hW : j < m → al_m (al_Dx lt ge gu op le 0 n m i (j + 1) 2) (b (121 * 2 + 11 * i + (j + 1)))) :
    al_m (al_Dx lt ge gu op le 0 n m i j last) (x_rst lt ge gu op le n m b i j last) := by
  have hnm : n + m ≤ 20 := by omega
  by_cases he : i = n ∧ j = m
  · have e : x_rst lt ge gu op le n m b i j last = nI 0 := if_pos he
    rw [e]
    have hD : ∀ v, al_Dx lt ge gu op le 0 n m i j last v = if v = 0 then 1 else 0 := fun v => by
      rw [al_Dx_rec hnm, al_Dx_out (by omega), al_Dx_out (by omega), al_Dx_out (by omega)]
      have hb := m_b0.mpr he
      simp [hb]
    exact al_m_cong (fun v => (hD v).symm) (al_X_m al_X_1)
  · have e : x_rst lt ge gu op le n m b i j last = al_mx (x_wcl lt ge gu op le n m b i j last) (-100000) 3 := if_neg he
    rw [e]
    have hgb := al_g_bd (lt := lt) ok i j
    have hgb : -9 ≤ (x_gain lt ge gu i j).toInt ∧ (x_gain lt ge gu i j).toInt ≤ 9 := hgb
    have c1 := al_c_bd ok last 1
    have c2 := al_c_bd ok last 2
    have k1 : (x_cost op le last 1).toInt = al_c op.toInt le.toInt last 1 := x_cost_c ok (by decide)
    have k2 : (x_cost op le last 2).toInt = al_c op.toInt le.toInt last 2 := x_cost_c ok (by decide)
    have v0 : al_V (fun v => 0 < al_Dx lt ge gu op le 0 n m (i + 1) (j + 1) 0 (v + -al_g lt ge gu i j)) (x_wcl lt ge gu op le n m b i j last 0) := by
      by_cases q : i + 1 ≤ n ∧ j + 1 ≤ m
      · have h := hG (by omega) (by omega)
        have hx := al_m_bd (al_Dx_B ok 0 n m (by decide)) h
        have ex : x_wcl lt ge gu op le n m b i j last 0 = x_gain lt ge gu i j - x_cost op le last 0 + b (121 * 0 + 11 * (i + 1) + (j + 1)) := by rw [x_wcl_0]; exact if_pos q
        have k0 : (x_cost op le last 0).toInt = 0 := x_cost_0 last
        have e1 : (x_gain lt ge gu i j - x_cost op le last 0).toInt = (x_gain lt ge gu i j).toInt := by
          rw [fb_subI (by rw [k0]; omega) (by rw [k0]; omega), k0]; omega
        have e2 : (x_wcl lt ge gu op le n m b i j last 0).toInt = (b (121 * 0 + 11 * (i + 1) + (j + 1))).toInt - -al_g lt ge gu i j := by
          rw [ex, fb_addI (by rw [e1]; omega) (by rw [e1]; omega), e1]
          show _ = _ - -(x_gain lt ge gu i j).toInt
          omega
        exact al_V_m (al_X_m (al_X_shift (f := al_Dx lt ge gu op le 0 n m (i + 1) (j + 1) 0) ⟨h.1, h.2, rfl⟩ e2))
      · have ex : x_wcl lt ge gu op le n m b i j last 0 = -100000 := by rw [x_wcl_0]; exact if_neg q
        rw [ex]
        exact al_V_no (fun v hv => by rw [al_Dx_out (by omega)] at hv; exact absurd hv (by decide)) (by rw [al_nv]; exact Int.le_refl _)
    have v1 : al_V (fun v => 0 < al_Dx lt ge gu op le 0 n m (i + 1) j 1 (v + al_c op.toInt le.toInt last 1)) (x_wcl lt ge gu op le n m b i j last 1) := by
      by_cases q : i + 1 ≤ n ∧ j ≤ m
      · have h := hU (by omega)
        have hx := al_m_bd (al_Dx_B ok 0 n m (by decide)) h
        have ex : x_wcl lt ge gu op le n m b i j last 1 = nI 0 - x_cost op le last 1 + b (121 * 1 + 11 * (i + 1) + j) := by rw [x_wcl_1]; exact if_pos q
        have e1 : (nI 0 - x_cost op le last 1).toInt = -al_c op.toInt le.toInt last 1 := by
          rw [fb_subI (by rw [k1, al_z]; omega) (by rw [k1, al_z]; omega), k1, al_z]; omega
        have e2 : (x_wcl lt ge gu op le n m b i j last 1).toInt = (b (121 * 1 + 11 * (i + 1) + j)).toInt - al_c op.toInt le.toInt last 1 := by
          rw [ex, fb_addI (by rw [e1]; omega) (by rw [e1]; omega), e1]
          omega
        exact al_V_m (al_X_m (al_X_shift (f := al_Dx lt ge gu op le 0 n m (i + 1) j 1) ⟨h.1, h.2, rfl⟩ e2))
      · have ex : x_wcl lt ge gu op le n m b i j last 1 = -100000 := by rw [x_wcl_1]; exact if_neg q
        rw [ex]
        exact al_V_no (fun v hv => by rw [al_Dx_out (by omega)] at hv; exact absurd hv (by decide)) (by rw [al_nv]; exact Int.le_refl _)
    have v2 : al_V (fun v => 0 < al_Dx lt ge gu op le 0 n m i (j + 1) 2 (v + al_c op.toInt le.toInt last 2)) (x_wcl lt ge gu op le n m b i j last 2) := by
      by_cases q : i ≤ n ∧ j + 1 ≤ m
      · have h := hW (by omega)
        have hx := al_m_bd (al_Dx_B ok 0 n m (by decide)) h
        have ex : x_wcl lt ge gu op le n m b i j last 2 = nI 0 - x_cost op le last 2 + b (121 * 2 + 11 * i + (j + 1)) := by rw [x_wcl_2]; exact if_pos q
        have e1 : (nI 0 - x_cost op le last 2).toInt = -al_c op.toInt le.toInt last 2 := by
          rw [fb_subI (by rw [k2, al_z]; omega) (by rw [k2, al_z]; omega), k2, al_z]; omega
        have e2 : (x_wcl lt ge gu op le n m b i j last 2).toInt = (b (121 * 2 + 11 * i + (j + 1))).toInt - al_c op.toInt le.toInt last 2 := by
          rw [ex, fb_addI (by rw [e1]; omega) (by rw [e1]; omega), e1]
          omega
        exact al_V_m (al_X_m (al_X_shift (f := al_Dx lt ge gu op le 0 n m i (j + 1) 2) ⟨h.1, h.2, rfl⟩ e2))
      · have ex : x_wcl lt ge gu op le n m b i j last 2 = -100000 := by rw [x_wcl_2]; exact if_neg q
        rw [ex]
        exact al_V_no (fun v hv => by rw [al_Dx_out (by omega)] at hv; exact absurd hv (by decide)) (by rw [al_nv]; exact Int.le_refl _)
    have hmx := al_V_mx (S := fun _ => False) (f := x_wcl lt ge gu op le n m b i j last) (x := -100000) (T := fun k v => if k = 0 then 0 < al_Dx lt ge gu op le 0 n m (i + 1) (j + 1) 0 (v + -al_g lt ge gu i j) else if k = 1 then 0 < al_Dx lt ge gu op le 0 n m (i + 1) j 1 (v + al_c op.toInt le.toInt last 1) else 0 < al_Dx lt ge gu op le 0 n m i (j + 1) 2 (v + al_c op.toInt le.toInt last 2)) (al_V_no (fun _ h => h) (by rw [al_nv]; exact Int.le_refl _)) 3 (fun k hk => by
      have h3 : k = 0 ∨ k = 1 ∨ k = 2 := by omega
      rcases h3 with rfl | rfl | rfl
      · exact v0
      · exact v1
      · exact v2)
    refine al_m_V (al_V_cong (fun v => ?_) hmx) (al_Dx_B ok 0 n m hl) (al_Dx_some hnm last hi hj)
    have hb : ¬ (m_b 0 n m i j = true ∧ v = 0) := fun q => he (m_b0.mp q.1)
    rw [al_Dx_rec hnm i j last v, if_neg hb, Nat.zero_add, al_pos3]
    constructor
    · rintro (q | ⟨k, hk, q⟩)
      · exact absurd q id
      · have h3 : k = 0 ∨ k = 1 ∨ k = 2 := by omega
        rcases h3 with rfl | rfl | rfl
        · exact Or.inl q
        · exact Or.inr (Or.inl q)
        · exact Or.inr (Or.inr q)
    · rintro (q | q | q)
      · exact Or.inr ⟨0, by decide, q⟩
      · exact Or.inr ⟨1, by decide, q⟩
      · exact Or.inr ⟨2, by decide, q⟩
/-- rows behind i, and row i from j on -/
def b_Inv (lt : Nat → Int32) (ge gu op le : Int32) (n m i j : Nat) (b : Nat → Int32) : Prop := ∀ i' j' s, i' ≤ n → j' ≤ m → s < 3 → (i < i' ∨ (i' = i ∧ j ≤ j')) → al_m (al_Dx lt ge gu op le 0 n m i' j' s) (b (121 * s + 11 * i' + j'))
theorem x_bhc_m (ok : al_ok ge gu op le) (hn : n ≤ 10) (hm : m ≤ 10) {i j : Nat} (hi : i ≤ n) (hj : j ≤ m) {b : Nat → Int32} (h : b_Inv lt ge gu op le n m i (j + 1) b) : b_Inv lt ge gu op le n m i j (x_bhc lt ge gu op le n m i j 3 b) := by
  have key : ∀ k, k ≤ 3 → b_Inv lt ge gu op le n m i (j + 1) (x_bhc lt ge gu op le n m i j k b) ∧ ∀ s, s < k → al_m (al_Dx lt ge gu op le 0 n m i j s) (x_bhc lt ge gu op le n m i j k b (121 * s + 11 * i + j)) := by
    intro k
    induction k with
    | zero => intro _; exact ⟨h, fun s hs => absurd hs (Nat.not_lt_zero s)⟩
    | succ k ih =>
      intro hk
      obtain ⟨a1, a2⟩ := ih (by omega)
      rw [x_bhc]
      generalize x_bhc lt ge gu op le n m i j k b = b1 at a1 a2 ⊢
      have r := x_rst_m (lt := lt) ok hn hm (b := b1) hi hj (show k < 3 by omega) (fun q1 q2 => a1 (i + 1) (j + 1) 0 (by omega) (by omega) (by omega) (by omega)) (fun q1 => a1 (i + 1) j 1 (by omega) (by omega) (by omega) (by omega)) (fun q1 => a1 i (j + 1) 2 (by omega) (by omega) (by omega) (by omega))
      constructor
      · intro i' j' s hi' hj' hs hq
        rw [pk_un (by omega)]
        exact a1 i' j' s hi' hj' hs hq
      · intro s hs
        by_cases e : s = k
        · rw [e, pk_us]; exact r
        · rw [pk_un (by omega)]
          exact a2 s (by omega)
  obtain ⟨a1, a2⟩ := key 3 (Nat.le_refl _)
  intro i' j' s hi' hj' hs hq
  by_cases e : i' = i ∧ j' = j
  · obtain ⟨rfl, rfl⟩ := e
    exact a2 s hs
  · exact a1 i' j' s hi' hj' hs (by omega)
theorem x_bhr_m (ok : al_ok ge gu op le) (hn : n ≤ 10) (hm : m ≤ 10) {i : Nat} (hi : i ≤ n) : ∀ k, k ≤ m + 1 → ∀ b : Nat → Int32, b_Inv lt ge gu op le n m i k b → b_Inv lt ge gu op le n m i 0 (x_bhr lt ge gu op le n m i k b) := by
  intro k
  induction k with
  | zero => intro _ b h; exact h
  | succ k ih =>
    intro hk b h
    exact ih (by omega) _ (x_bhc_m ok hn hm hi (by omega) h)
theorem x_bhl_m (ok : al_ok ge gu op le) (hn : n ≤ 10) (hm : m ≤ 10) : ∀ k, k ≤ n + 1 → ∀ b : Nat → Int32, (∀ i' j' s, i' ≤ n → j' ≤ m → s < 3 → k ≤ i' → al_m (al_Dx lt ge gu op le 0 n m i' j' s) (b (121 * s + 11 * i' + j'))) → ∀ i' j' s, i' ≤ n → j' ≤ m → s < 3 → al_m (al_Dx lt ge gu op le 0 n m i' j' s) (x_bhl lt ge gu op le n m k b (121 * s + 11 * i' + j')) := by
  intro k
  induction k with
  | zero => intro _ b h i' j' s h1 h2 h3; exact h i' j' s h1 h2 h3 (by omega)
  | succ k ih =>
    intro hk b h
    have h2 := x_bhr_m (lt := lt) ok hn hm (show k ≤ n by omega) (m + 1) (Nat.le_refl _) b (fun i' j' s a1 a2 a3 a4 => h i' j' s a1 a2 a3 (by omega))
    exact ih (by omega) _ (fun i' j' s a1 a2 a3 a4 => h2 i' j' s a1 a2 a3 (by omega))
theorem x_behind_m (ok : al_ok ge gu op le) (hn : n ≤ 10) (hm : m ≤ 10) (b : Nat → Int32) {i j s : Nat} (hi : i ≤ n) (hj : j ≤ m) (hs : s < 3) : al_m (al_Dx lt ge gu op le 0 n m i j s) (x_bhl lt ge gu op le n m (n + 1) b (121 * s + 11 * i + j)) :=
  x_bhl_m ok hn hm (n + 1) (Nat.le_refl _) b (fun i' j' s h1 h2 h3 h4 => absurd h4 (by omega)) i j s hi hj hs
theorem x_behind_fix (ok : al_ok ge gu op le) (hn : n ≤ 10) (hm : m ≤ 10) (b : Nat → Int32) {i j s : Nat} (hi : i ≤ n) (hj : j ≤ m) (hs : s < 3) : x_bhl lt ge gu op le n m (n + 1) b (121 * s + 11 * i + j) = x_rst lt ge gu op le n m (x_bhl lt ge gu op le n m (n + 1) b) i j s :=
  al_m_one (x_behind_m ok hn hm b hi hj hs) (x_rst_m ok hn hm hi hj hs (fun q1 q2 => x_behind_m ok hn hm b (by omega) (by omega) (by omega)) (fun q1 => x_behind_m ok hn hm b (by omega) (by omega) (by omega)) (fun q1 => x_behind_m ok hn hm b (by omega) (by omega) (by omega)))
theorem al_P_pos {fam : Nat → Int → Nat} {O L : Int} (v : Int) : ∀ N : Nat, 0 < al_P fam O L N v ↔ ∃ k, k < N ∧ 0 < fam k (v + (O + al_kl L (k + 1))) := by
  intro N
  induction N with
  | zero => exact ⟨fun h => absurd h (by simp [al_P]), fun ⟨k, hk, _⟩ => absurd hk (Nat.not_lt_zero k)⟩
  | succ N ih =>
    have e : al_P fam O L (N + 1) v = al_P fam O L N v + fam N (v + (O + al_kl L (N + 1))) := rfl
    have hs : ∀ p q : Nat, 0 < p + q ↔ 0 < p ∨ 0 < q := fun p q => by omega
    rw [e, hs, ih]
    constructor
    · rintro (⟨k, hk, q⟩ | q)
      · exact ⟨k, by omega, q⟩
      · exact ⟨N, by omega, q⟩
    · rintro ⟨k, hk, q⟩
      by_cases e : k = N
      · rw [e] at q; exact Or.inr q
      · exact Or.inl ⟨k, by omega, q⟩
theorem m_len_V (ok : al_ok ge gu op le) {B : Int → Nat} (hB : al_B B) {x u : Int32} {k : Nat} (hk : k ≤ 20) (h : al_R B x u) : al_V (fun v => 0 < B (v + (0 + al_kl le.toInt k))) (x - nI k * le) := by
  have hl := al_R_lo hB h
  have hm := al_mulk ok hk
  have hb := al_kl_bd ok.2.2.2 k
  have e2 : (x - nI k * le).toInt = x.toInt - (0 + al_kl le.toInt k) := by
    rw [fb_subI (by rw [hm]; omega) (by rw [hm]; omega), hm]; omega
  rcases h with ⟨h1, h2, -⟩ | hX
  · exact al_V_no (fun v hv => by have hv : 0 < B (v + (0 + al_kl le.toInt k)) := hv; rw [h1] at hv; exact absurd hv (by decide)) (by rw [e2, h2, al_nv]; omega)
  · exact al_V_m (al_X_m (al_X_shift hX e2))
/-- the reference's rest, over its tables -/
theorem m_rst_m (ok : al_ok ge gu op le) (hn : n ≤ 10) (hm : m ≤ 10) (t : al_T) {i j la : Nat} (hi : i ≤ n) (hj : j ≤ m) (hl : la < 3) : al_m (al_Dx lt ge gu op le 0 n m i j la) (m_rst le (m_wrk lt ge gu op le 0 n m (n + 1) t).1 n m i j la) := by
  have hnm : n + m ≤ 20 := by omega
  have hT : ∀ {i j la : Nat}, i ≤ n → j ≤ m → la < 3 → al_R (al_Bx lt ge gu op le 0 n m la i j) ((m_wrk lt ge gu op le 0 n m (n + 1) t).1 ((i * 11 + j) * 3 + la)) ((m_wrk lt ge gu op le 0 n m (n + 1) t).2 ((i * 11 + j) * 3 + la)) := fun h1 h2 h3 => m_work_R ok hn hm t h1 h2 h3
  generalize m_wrk lt ge gu op le 0 n m (n + 1) t = W at hT ⊢
  have h3 : la = 0 ∨ la = 1 ∨ la = 2 := by omega
  rcases h3 with rfl | rfl | rfl
  · have e : m_rst le W.1 n m i j 0 = W.1 ((i * 11 + j) * 3 + 0) := rfl
    rw [e]
    exact al_X_m (al_X_of (al_R_cong (al_Bx_0 hnm i j) (hT hi hj (by decide))) (al_Dx_some hnm 0 hi hj))
  · have e : m_rst le W.1 n m i j 1 = al_mx (fun k => W.1 (((i + (k + 1)) * 11 + j) * 3 + 1) - nI (k + 1) * le) (W.1 ((i * 11 + j) * 3 + 1)) (n - i) := rfl
    rw [e]
    have hmx := al_V_mx (f := fun k => W.1 (((i + (k + 1)) * 11 + j) * 3 + 1) - nI (k + 1) * le) (T := fun k v => 0 < al_Bx lt ge gu op le 0 n m 1 (i + (k + 1)) j (v + (0 + al_kl le.toInt (k + 1)))) (al_V_R (hT hi hj (show 1 < 3 by decide))) (n - i) (fun k hk => m_len_V ok (al_Bx_B ok hnm 1 _ _) (by omega) (hT (by omega) hj (by decide)))
    refine al_m_V (al_V_cong (fun v => ?_) hmx) (al_Dx_B ok 0 n m (by decide)) (al_Dx_some hnm 1 hi hj)
    have q := al_P_D (fam := fun k => al_Bx lt ge gu op le 0 n m 1 (i + (k + 1)) j) (Dn := fun k => al_Dx lt ge gu op le 0 n m (i + k) j 1) (O := 0) (L := le.toInt) (fun k w => al_Bx_1 hnm (i + (k + 1)) j w) (n - i) v
    have q1 : al_Dx lt ge gu op le 0 n m (i + (n - i + 1)) j 1 (v + (0 + al_kl le.toInt (n - i + 1))) = 0 := al_Dx_out (by omega) _
    have q2 : al_Dx lt ge gu op le 0 n m i j 1 v = al_Bx lt ge gu op le 0 n m 1 i j v + al_P (fun k => al_Bx lt ge gu op le 0 n m 1 (i + (k + 1)) j) 0 le.toInt (n - i) v := by
      rw [← al_Bx_1 hnm i j v]
      have q : al_P (fun k => al_Bx lt ge gu op le 0 n m 1 (i + (k + 1)) j) 0 le.toInt (n - i) v + al_Dx lt ge gu op le 0 n m (i + (n - i + 1)) j 1 (v + (0 + al_kl le.toInt (n - i + 1))) = al_Dx lt ge gu op le 0 n m (i + 1) j 1 (v + (0 + le.toInt)) := q
      rw [q1, Nat.add_zero, Int.zero_add] at q
      rw [q]
    have hs : ∀ p q : Nat, 0 < p + q ↔ 0 < p ∨ 0 < q := fun p q => by omega
    rw [q2, hs, al_P_pos]
  · have e : m_rst le W.1 n m i j 2 = al_mx (fun k => W.1 ((i * 11 + j + (k + 1)) * 3 + 2) - nI (k + 1) * le) (W.1 ((i * 11 + j) * 3 + 2)) (m - j) := rfl
    rw [e]
    have hmx := al_V_mx (f := fun k => W.1 ((i * 11 + j + (k + 1)) * 3 + 2) - nI (k + 1) * le) (T := fun k v => 0 < al_Bx lt ge gu op le 0 n m 2 i (j + (k + 1)) (v + (0 + al_kl le.toInt (k + 1)))) (al_V_R (hT hi hj (show 2 < 3 by decide))) (m - j) (fun k hk => m_len_V ok (al_Bx_B ok hnm 2 _ _) (by omega) (by
      have := hT (la := 2) hi (show j + (k + 1) ≤ m by omega) (by decide)
      rw [← Nat.add_assoc (i * 11) j (k + 1)] at this
      exact this))
    refine al_m_V (al_V_cong (fun v => ?_) hmx) (al_Dx_B ok 0 n m (by decide)) (al_Dx_some hnm 2 hi hj)
    have q := al_P_D (fam := fun k => al_Bx lt ge gu op le 0 n m 2 i (j + (k + 1))) (Dn := fun k => al_Dx lt ge gu op le 0 n m i (j + k) 2) (O := 0) (L := le.toInt) (fun k w => al_Bx_2 hnm i (j + (k + 1)) w) (m - j) v
    have q1 : al_Dx lt ge gu op le 0 n m i (j + (m - j + 1)) 2 (v + (0 + al_kl le.toInt (m - j + 1))) = 0 := al_Dx_out (by omega) _
    have q2 : al_Dx lt ge gu op le 0 n m i j 2 v = al_Bx lt ge gu op le 0 n m 2 i j v + al_P (fun k => al_Bx lt ge gu op le 0 n m 2 i (j + (k + 1))) 0 le.toInt (m - j) v := by
      rw [← al_Bx_2 hnm i j v]
      have q : al_P (fun k => al_Bx lt ge gu op le 0 n m 2 i (j + (k + 1))) 0 le.toInt (m - j) v + al_Dx lt ge gu op le 0 n m i (j + (m - j + 1)) 2 (v + (0 + al_kl le.toInt (m - j + 1))) = al_Dx lt ge gu op le 0 n m i (j + 1) 2 (v + (0 + le.toInt)) := q
      rw [q1, Nat.add_zero, Int.zero_add] at q
      rw [q]
    have hs : ∀ p q : Nat, 0 < p + q ↔ 0 < p ∨ 0 < q := fun p q => by omega
    rw [q2, hs, al_P_pos]
/-- the two agree -/
theorem x_m_rest (ok : al_ok ge gu op le) (hn : n ≤ 10) (hm : m ≤ 10) (b : Nat → Int32) (t : al_T) {i j s : Nat} (hi : i ≤ n) (hj : j ≤ m) (hs : s < 3) : x_bhl lt ge gu op le n m (n + 1) b (121 * s + 11 * i + j) = m_rst le (m_wrk lt ge gu op le 0 n m (n + 1) t).1 n m i j s :=
  al_m_one (x_behind_m ok hn hm b hi hj hs) (m_rst_m ok hn hm t hi hj hs)
theorem al_mx3 (f : Nat → Int32) (x : Int32) : al_mx f x 3 = x ∨ al_mx f x 3 = f 0 ∨ al_mx f x 3 = f 1 ∨ al_mx f x 3 = f 2 := by
  have h : ∀ a b : Int32, al_max a b = a ∨ al_max a b = b := fun a b => by
    unfold al_max
    split
    · exact Or.inl rfl
    · exact Or.inr rfl
  have e : al_mx f x 3 = al_max (al_max (al_max x (f 0)) (f 1)) (f 2) := rfl
  rw [e]
  rcases h (al_max (al_max x (f 0)) (f 1)) (f 2) with q | q
  · rw [q]
    rcases h (al_max x (f 0)) (f 1) with q | q
    · rw [q]
      rcases h x (f 0) with q | q
      · exact Or.inl q
      · exact Or.inr (Or.inl q)
    · exact Or.inr (Or.inr (Or.inl q))
  · exact Or.inr (Or.inr (Or.inr q))
theorem x_srt_box (ok : al_ok ge gu op le) (hn : n ≤ 10) (hm : m ≤ 10) (b : Nat → Int32) {i j s : Nat} (hi : i ≤ n) (hj : j ≤ m) (hs : s < 3) (he : ¬ (i = n ∧ j = m)) :
    (x_srt lt ge gu op le n m (x_bhl lt ge gu op le n m (n + 1) b) i j s = 2 ∨ i + 1 ≤ n) ∧ (x_srt lt ge gu op le n m (x_bhl lt ge gu op le n m (n + 1) b) i j s = 1 ∨ j + 1 ≤ m) := by
  have hfix := x_behind_fix (lt := lt) ok hn hm b hi hj hs
  have hbd := al_m_bd (al_Dx_B ok 0 n m hs) (x_behind_m (lt := lt) ok hn hm b hi hj hs)
  generalize x_bhl lt ge gu op le n m (n + 1) b = B at hfix hbd ⊢
  have e : x_rst lt ge gu op le n m B i j s = al_mx (x_wcl lt ge gu op le n m B i j s) (-100000) 3 := if_neg he
  rw [e] at hfix
  have hne : B (121 * s + 11 * i + j) ≠ -100000 := fun q => by rw [q, al_nv] at hbd; omega
  unfold x_srt
  by_cases c0 : x_wcl lt ge gu op le n m B i j s 0 = B (121 * s + 11 * i + j)
  · rw [if_pos c0]
    have hb : i + 1 ≤ n ∧ j + 1 ≤ m := Decidable.byContradiction fun q => hne (by rw [← c0, x_wcl_0]; exact if_neg q)
    exact ⟨Or.inr hb.1, Or.inr hb.2⟩
  · rw [if_neg c0]
    by_cases c1 : x_wcl lt ge gu op le n m B i j s 1 = B (121 * s + 11 * i + j)
    · rw [if_pos c1]
      have hb : i + 1 ≤ n ∧ j ≤ m := Decidable.byContradiction fun q => hne (by rw [← c1, x_wcl_1]; exact if_neg q)
      exact ⟨Or.inr hb.1, Or.inl rfl⟩
    · rw [if_neg c1]
      rcases al_mx3 (x_wcl lt ge gu op le n m B i j s) (-100000) with q | q | q | q
      · exact absurd (hfix.trans q) hne
      · exact absurd (hfix.trans q).symm c0
      · exact absurd (hfix.trans q).symm c1
      · have hb : i ≤ n ∧ j + 1 ≤ m := Decidable.byContradiction fun z => hne (hfix.trans (q.trans (by rw [x_wcl_2]; exact if_neg z)))
        exact ⟨Or.inl rfl, Or.inr hb.2⟩
theorem al_ar0 (g r : Int32) : g - nI 0 + r = r + g := by
  rw [nI_0]; grind
theorem al_ar1 (op le r : Int32) : nI 0 - le + r = r - (le + nI 0) := by
  rw [nI_0]; grind
theorem al_ar2 (op le r : Int32) : nI 0 - (op + le) + r = r - (le + op) := by
  rw [nI_0]; grind
theorem x_m_srt (ok : al_ok ge gu op le) (hn : n ≤ 10) (hm : m ≤ 10) (b : Nat → Int32) (t : al_T) {i j s : Nat} (hi : i ≤ n) (hj : j ≤ m) (hs : s < 3) :
    x_srt lt ge gu op le n m (x_bhl lt ge gu op le n m (n + 1) b) i j s = m_srt lt ge gu op le (m_wrk lt ge gu op le 0 n m (n + 1) t).1 n m i j s := by
  have hR : ∀ {i j s : Nat}, i ≤ n → j ≤ m → s < 3 → x_bhl lt ge gu op le n m (n + 1) b (121 * s + 11 * i + j) = m_rst le (m_wrk lt ge gu op le 0 n m (n + 1) t).1 n m i j s := fun h1 h2 h3 => x_m_rest ok hn hm b t h1 h2 h3
  have hbd := al_m_bd (al_Dx_B ok 0 n m hs) (x_behind_m (lt := lt) ok hn hm b hi hj hs)
  generalize x_bhl lt ge gu op le n m (n + 1) b = B at hR hbd ⊢
  generalize (m_wrk lt ge gu op le 0 n m (n + 1) t).1 = S at hR ⊢
  have hne : B (121 * s + 11 * i + j) ≠ -100000 := fun q => by rw [q, al_nv] at hbd; omega
  have e0 : (x_wcl lt ge gu op le n m B i j s 0 = B (121 * s + 11 * i + j)) ↔ (i < n ∧ j < m ∧ m_rst le S n m (i + 1) (j + 1) 0 + x_gain lt ge gu i j = m_rst le S n m i j s) := by
    rw [← hR hi hj hs, x_wcl_0]
    by_cases q : i + 1 ≤ n ∧ j + 1 ≤ m
    · rw [if_pos q, hR q.1 q.2 (by decide), show x_cost op le s 0 = nI 0 from rfl, al_ar0]
      exact ⟨fun h => ⟨q.1, q.2, h⟩, fun h => h.2.2⟩
    · rw [if_neg q]
      exact ⟨fun h => absurd h.symm hne, fun h => absurd ⟨h.1, h.2.1⟩ q⟩
  have e1 : (x_wcl lt ge gu op le n m B i j s 1 = B (121 * s + 11 * i + j)) ↔ (i < n ∧ m_rst le S n m (i + 1) j 1 - (le + (if s = 1 then nI 0 else op)) = m_rst le S n m i j s) := by
    rw [← hR hi hj hs, x_wcl_1]
    by_cases q : i + 1 ≤ n ∧ j ≤ m
    · rw [if_pos q, hR q.1 hj (by decide)]
      have ec : nI 0 - x_cost op le s 1 + m_rst le S n m (i + 1) j 1 = m_rst le S n m (i + 1) j 1 - (le + (if s = 1 then nI 0 else op)) := by
        unfold x_cost
        rw [if_neg (by decide)]
        by_cases z : s = 1
        · rw [if_pos z, if_pos z]; exact al_ar1 op le _
        · rw [if_neg z, if_neg z]; exact al_ar2 op le _
      rw [ec]
      exact ⟨fun h => ⟨q.1, h⟩, fun h => h.2⟩
    · rw [if_neg q]
      exact ⟨fun h => absurd h.symm hne, fun h => absurd ⟨h.1, hj⟩ q⟩
  unfold x_srt m_srt
  by_cases c0 : x_wcl lt ge gu op le n m B i j s 0 = B (121 * s + 11 * i + j)
  · rw [if_pos c0, if_pos (e0.mp c0)]
  · rw [if_neg c0, if_neg (fun h => c0 (e0.mpr h))]
    by_cases c1 : x_wcl lt ge gu op le n m B i j s 1 = B (121 * s + 11 * i + j)
    · rw [if_pos c1, if_pos (e1.mp c1)]
    · rw [if_neg c1, if_neg (fun h => c1 (e1.mpr h))]
end BEHIND
end
section
/-! PURE: the answers are the same -/
theorem x_may0 {i j : Nat} : x_may 0 i j = true ↔ i = 0 ∧ j = 0 := by
  unfold x_may
  simp
theorem x_may1 {i j : Nat} : x_may 1 i j = true ↔ i = 0 := by
  unfold x_may
  simp
theorem x_may2 {i j : Nat} : x_may 2 i j = true ↔ j = 0 := by
  unfold x_may
  simp
theorem x_may3 {i j : Nat} : x_may 3 i j = true := by
  unfold x_may
  simp
theorem m_b1 {n m i j : Nat} : m_b 1 n m i j = true ↔ i ≤ n ∧ j ≤ m := by
  constructor
  · intro h; exact m_b_box i j h
  · intro h; exact (m_b_iff h.1 h.2).mpr (Or.inr (Or.inl rfl))
theorem m_b2 {n m i j : Nat} : m_b 2 n m i j = true ↔ i = n ∧ j ≤ m := by
  constructor
  · intro h
    have := of_decide_eq_true h
    omega
  · rintro ⟨rfl, h⟩
    exact (m_b_iff (Nat.le_refl _) h).mpr (Or.inr (Or.inr ⟨rfl, rfl⟩))
section LAWS
variable {lt : Nat → Int32} {ge gu op le : Int32} {n m : Nat}
theorem al_lkx (fd how : Nat) (v : Int) : (∃ i j s, m_b how n m i j = true ∧ s < 3 ∧ 0 < al_Fx lt ge gu op le fd i j s v) ↔ (∃ i j, x_may fd i j = true ∧ 0 < al_Dx lt ge gu op le how n m i j 0 v) := al_link (x_may fd) (m_b how n m) 20 v
/-- best, and the best of what is before a pair -/
theorem law_best (ok : al_ok ge gu op le) (hn : n ≤ 10) (hm : m ≤ 10) (t t' : al_T) {a b : Nat} (ha : a ≤ n) (hb : b ≤ m) : x_bat (x_frt lt ge gu op le 0 m (n + 1) t).1 a b = (m_wrk lt ge gu op le 0 a b (a + 1) t').1 0 := by
  have h1 := (x_bat_U (lt := lt) (fd := 0) ok hn hm t ha hb).1
  have h2 := al_U_R (Or.inr (m_work_X (lt := lt) (how := 0) (n := a) (m := b) ok (by omega) (by omega) t' (Nat.zero_le _) (Nat.zero_le _)))
  refine al_U_one (S := fun v => 0 < al_Dx lt ge gu op le 0 a b 0 0 0 v) (fun v hv => (al_Dx_B ok 0 a b (by decide) v hv).1) (al_Dx_some (by omega) 0 (Nat.zero_le _) (Nat.zero_le _)) (al_U_cong (fun v => ?_) h1) h2
  have k := al_lkx (lt := lt) (ge := ge) (gu := gu) (op := op) (le := le) (n := a) (m := b) 0 0 v
  constructor
  · rintro ⟨s, hs, q⟩
    obtain ⟨i, j, h3, h4⟩ := k.mp ⟨a, b, s, m_b0.mpr ⟨rfl, rfl⟩, hs, q⟩
    obtain ⟨rfl, rfl⟩ := x_may0.mp h3
    exact h4
  · intro q
    obtain ⟨i, j, s, h3, hs, h4⟩ := k.mpr ⟨0, 0, x_may0.mpr ⟨rfl, rfl⟩, q⟩
    obtain ⟨rfl, rfl⟩ := m_b0.mp h3
    exact ⟨s, hs, h4⟩
theorem law_ways (ok : al_ok ge gu op le) (hn : n ≤ 10) (hm : m ≤ 10) (t t' : al_T) : x_wsm (x_frt lt ge gu op le 0 m (n + 1) t).1 (x_frt lt ge gu op le 0 m (n + 1) t).2 (11 * n + m) (x_bat (x_frt lt ge gu op le 0 m (n + 1) t).1 n m) 3 = (m_wrk lt ge gu op le 0 n m (n + 1) t').2 0 := by
  have hbest := law_best (lt := lt) ok hn hm t t' (Nat.le_refl n) (Nat.le_refl m)
  have hX := m_work_X (lt := lt) (how := 0) ok hn hm t' (Nat.zero_le _) (Nat.zero_le _)
  have hX : al_X (al_Dx lt ge gu op le 0 n m 0 0 0) ((m_wrk lt ge gu op le 0 n m (n + 1) t').1 0) ((m_wrk lt ge gu op le 0 n m (n + 1) t').2 0) := hX
  have hU := (x_bat_U (lt := lt) (fd := 0) ok hn hm t (Nat.le_refl n) (Nat.le_refl m)).1
  have r : ∀ s, s < 3 → al_R (al_Fx lt ge gu op le 0 n m s) ((x_frt lt ge gu op le 0 m (n + 1) t).1 (121 * s + (11 * n + m))) ((x_frt lt ge gu op le 0 m (n + 1) t).2 (121 * s + (11 * n + m))) := fun s hs => x_front_R ok hn hm t (Nat.le_refl n) (Nat.le_refl m) hs
  rw [← hbest] at hX
  have hbd := al_X_bd (al_Dx_B ok 0 n m (by decide)) hX
  generalize x_bat (x_frt lt ge gu op le 0 m (n + 1) t).1 n m = best at hX hU hbd ⊢
  generalize x_frt lt ge gu op le 0 m (n + 1) t = T at r ⊢
  have w : ∀ s, s < 3 → (T.1 (121 * s + (11 * n + m)) = best → T.2 (121 * s + (11 * n + m)) = nI (al_Fx lt ge gu op le 0 n m s best.toInt)) ∧ (¬ T.1 (121 * s + (11 * n + m)) = best → al_Fx lt ge gu op le 0 n m s best.toInt = 0) := by
    intro s hs
    rcases r s hs with ⟨h1, h2, -⟩ | h
    · refine ⟨fun q => ?_, fun _ => h1 _⟩
      rw [← q, h2, al_nv] at hbd
      omega
    · refine ⟨fun q => ?_, fun q => ?_⟩
      · rw [← q]; exact h.2.2
      · have a1 := hU.1 _ ⟨s, hs, h.1⟩
        have a2 : (T.1 (121 * s + (11 * n + m))).toInt ≠ best.toInt := fun z => q (al_eq.mpr z)
        exact h.2.1 _ (by omega)
  have step : ∀ k, k < 3 → ∀ c : Nat, x_wsm T.1 T.2 (11 * n + m) best k = nI c → x_wsm T.1 T.2 (11 * n + m) best (k + 1) = nI (c + al_Fx lt ge gu op le 0 n m k best.toInt) := by
    intro k hk c hc
    rw [x_wsm]
    by_cases q : T.1 (121 * k + (11 * n + m)) = best
    · rw [if_pos q, hc, (w k hk).1 q, nI_add]
    · rw [if_neg q, hc, (w k hk).2 q, Nat.add_zero]
  have s3 := step 2 (by decide) _ (step 1 (by decide) _ (step 0 (by decide) 0 rfl))
  have e3 : x_wsm T.1 T.2 (11 * n + m) best 3 = nI (0 + al_Fx lt ge gu op le 0 n m 0 best.toInt + al_Fx lt ge gu op le 0 n m 1 best.toInt + al_Fx lt ge gu op le 0 n m 2 best.toInt) := s3
  rw [e3, hX.2.2, Nat.zero_add]
  exact congrArg nI (al_same (fun i j => x_may0) (fun i j => m_b0) 20 best.toInt)
theorem law_local (ok : al_ok ge gu op le) (hn : n ≤ 10) (hm : m ≤ 10) (t t' : al_T) : al_mx2 (x_bat (x_frt lt ge gu op le 3 m (n + 1) t).1) (m + 1) (nI 0) (n + 1) = al_mx2 (fun x y => (m_wrk lt ge gu op le 1 n m (n + 1) t').1 ((x * 11 + y) * 3)) (m + 1) (nI 0) (n + 1) := by
  have z0 : al_U (fun v => v = 0) (nI 0) := ⟨fun v hv => by rw [al_z]; omega, Or.inl al_z⟩
  have z1 : -100000 ≤ (nI 0).toInt := by rw [al_z]; decide
  have h1 := (al_U_mx2 (f := x_bat (x_frt lt ge gu op le 3 m (n + 1) t).1) (m := m + 1) z0 z1 (n + 1) (fun i j hi hj => x_bat_U (lt := lt) (fd := 3) ok hn hm t (show i ≤ n by omega) (show j ≤ m by omega))).1
  have h2 := (al_U_mx2 (f := fun x y => (m_wrk lt ge gu op le 1 n m (n + 1) t').1 ((x * 11 + y) * 3)) (m := m + 1) (T := fun i j v => 0 < al_Dx lt ge gu op le 1 n m i j 0 v) z0 z1 (n + 1) (fun i j hi hj => by
    have q := m_work_X (lt := lt) (how := 1) ok hn hm t' (show i ≤ n by omega) (show j ≤ m by omega)
    have b := al_X_bd (al_Dx_B ok 1 n m (by decide)) q
    exact ⟨al_U_R (Or.inr q), by show -100000 ≤ ((m_wrk lt ge gu op le 1 n m (n + 1) t').1 ((i * 11 + j) * 3)).toInt; omega⟩)).1
  refine al_U_one (fun v hv => ?_) ⟨0, Or.inl rfl⟩ h1 (al_U_cong (fun v => ?_) h2)
  · rcases hv with hv | ⟨i, j, -, -, s, -, hv⟩
    · omega
    · exact (al_Fx_B ok 3 i j s v hv).1
  have k := al_lkx (lt := lt) (ge := ge) (gu := gu) (op := op) (le := le) (n := n) (m := m) 3 1 v
  constructor
  · rintro (q | ⟨i, j, hi, hj, q⟩)
    · exact Or.inl q
    · obtain ⟨i', j', s, h3, hs, h4⟩ := k.mpr ⟨i, j, x_may3, q⟩
      have h5 := m_b1.mp h3
      exact Or.inr ⟨i', j', by omega, by omega, s, hs, h4⟩
  · rintro (q | ⟨i, j, hi, hj, s, hs, q⟩)
    · exact Or.inl q
    · obtain ⟨i', j', h3, h4⟩ := k.mp ⟨i, j, s, m_b1.mpr ⟨by omega, by omega⟩, hs, q⟩
      refine Or.inr ⟨i', j', ?_, ?_, h4⟩
      · rcases Nat.lt_or_ge n i' with z | z
        · rw [al_Dx_out (Or.inl z)] at h4; exact absurd h4 (by decide)
        · omega
      · rcases Nat.lt_or_ge m j' with z | z
        · rw [al_Dx_out (Or.inr z)] at h4; exact absurd h4 (by decide)
        · omega
theorem al_U_none : al_U (fun _ => False) (-100000) ∧ -100000 ≤ (-100000 : Int32).toInt := ⟨⟨fun v hv => absurd hv id, Or.inr rfl⟩, by rw [al_nv]; exact Int.le_refl _⟩
theorem law_fitted (ok : al_ok ge gu op le) (hn : n ≤ 10) (hm : m ≤ 10) (t t' : al_T) : al_mx (x_bat (x_frt lt ge gu op le 1 m (n + 1) t).1 n) (-100000) (m + 1) = al_mx (fun y => (m_wrk lt ge gu op le 2 n m (n + 1) t').1 (y * 3)) ((m_wrk lt ge gu op le 2 n m (n + 1) t').1 0) (m + 1) := by
  have h1 := (al_U_mx (f := x_bat (x_frt lt ge gu op le 1 m (n + 1) t).1 n) al_U_none.1 al_U_none.2 (m + 1) (fun j hj => x_bat_U (lt := lt) (fd := 1) ok hn hm t (Nat.le_refl n) (show j ≤ m by omega))).1
  have hM : ∀ j, j ≤ m → al_U (fun v => 0 < al_Dx lt ge gu op le 2 n m 0 j 0 v) ((m_wrk lt ge gu op le 2 n m (n + 1) t').1 (j * 3)) ∧ -100000 ≤ ((m_wrk lt ge gu op le 2 n m (n + 1) t').1 (j * 3)).toInt := fun j hj => by
    have q := m_work_X (lt := lt) (how := 2) ok hn hm t' (Nat.zero_le n) hj
    rw [show (0 * 11 + j) * 3 = j * 3 by omega] at q
    have b := al_X_bd (al_Dx_B ok 2 n m (by decide)) q
    exact ⟨al_U_R (Or.inr q), by omega⟩
  have h0 := hM 0 (Nat.zero_le _)
  rw [Nat.zero_mul] at h0
  have h2 := (al_U_mx (f := fun y => (m_wrk lt ge gu op le 2 n m (n + 1) t').1 (y * 3)) (T := fun j v => 0 < al_Dx lt ge gu op le 2 n m 0 j 0 v) h0.1 h0.2 (m + 1) (fun j hj => hM j (by omega))).1
  refine al_U_one (S := fun v => ∃ j, j < m + 1 ∧ 0 < al_Dx lt ge gu op le 2 n m 0 j 0 v) (fun v hv => ?_) ?_ (al_U_cong (fun v => ?_) h1) (al_U_cong (fun v => ?_) h2)
  · obtain ⟨j, -, hv⟩ := hv
    exact (al_Dx_B ok 2 n m (by decide) v hv).1
  · obtain ⟨v, hv⟩ := al_Dx_some (lt := lt) (ge := ge) (gu := gu) (op := op) (le := le) (how := 2) (show n + m ≤ 20 by omega) 0 (Nat.zero_le n) (Nat.zero_le m)
    exact ⟨v, 0, by omega, hv⟩
  · have k := al_lkx (lt := lt) (ge := ge) (gu := gu) (op := op) (le := le) (n := n) (m := m) 1 2 v
    constructor
    · rintro (q | ⟨j, hj, s, hs, q⟩)
      · exact absurd q id
      · obtain ⟨i', j', h3, h4⟩ := k.mp ⟨n, j, s, m_b2.mpr ⟨rfl, by omega⟩, hs, q⟩
        have h5 := x_may1.mp h3
        subst h5
        refine ⟨j', ?_, h4⟩
        rcases Nat.lt_or_ge m j' with z | z
        · rw [al_Dx_out (Or.inr z)] at h4; exact absurd h4 (by decide)
        · omega
    · rintro ⟨j, hj, q⟩
      obtain ⟨i', j', s, h3, hs, h4⟩ := k.mpr ⟨0, j, x_may1.mpr rfl, q⟩
      obtain ⟨rfl, h6⟩ := m_b2.mp h3
      exact Or.inr ⟨j', by omega, s, hs, h4⟩
  · constructor
    · rintro (q | ⟨j, hj, q⟩)
      · exact ⟨0, by omega, q⟩
      · exact ⟨j, hj, q⟩
    · rintro ⟨j, hj, q⟩
      exact Or.inr ⟨j, hj, q⟩
theorem law_overlap (ok : al_ok ge gu op le) (hn : n ≤ 10) (hm : m ≤ 10) (t t' : al_T) : al_mx (x_bat (x_frt lt ge gu op le 2 m (n + 1) t).1 n) (-100000) (m + 1) = al_mx (fun y => (m_wrk lt ge gu op le 2 n m (n + 1) t').1 (y * 33)) ((m_wrk lt ge gu op le 2 n m (n + 1) t').1 0) (n + 1) := by
  have h1 := (al_U_mx (f := x_bat (x_frt lt ge gu op le 2 m (n + 1) t).1 n) al_U_none.1 al_U_none.2 (m + 1) (fun j hj => x_bat_U (lt := lt) (fd := 2) ok hn hm t (Nat.le_refl n) (show j ≤ m by omega))).1
  have hM : ∀ i, i ≤ n → al_U (fun v => 0 < al_Dx lt ge gu op le 2 n m i 0 0 v) ((m_wrk lt ge gu op le 2 n m (n + 1) t').1 (i * 33)) ∧ -100000 ≤ ((m_wrk lt ge gu op le 2 n m (n + 1) t').1 (i * 33)).toInt := fun i hi => by
    have q := m_work_X (lt := lt) (how := 2) ok hn hm t' hi (Nat.zero_le m)
    rw [show (i * 11 + 0) * 3 = i * 33 by omega] at q
    have b := al_X_bd (al_Dx_B ok 2 n m (by decide)) q
    exact ⟨al_U_R (Or.inr q), by omega⟩
  have h0 := hM 0 (Nat.zero_le _)
  rw [Nat.zero_mul] at h0
  have h2 := (al_U_mx (f := fun y => (m_wrk lt ge gu op le 2 n m (n + 1) t').1 (y * 33)) (T := fun i v => 0 < al_Dx lt ge gu op le 2 n m i 0 0 v) h0.1 h0.2 (n + 1) (fun j hj => hM j (by omega))).1
  refine al_U_one (S := fun v => ∃ i, i < n + 1 ∧ 0 < al_Dx lt ge gu op le 2 n m i 0 0 v) (fun v hv => ?_) ?_ (al_U_cong (fun v => ?_) h1) (al_U_cong (fun v => ?_) h2)
  · obtain ⟨j, -, hv⟩ := hv
    exact (al_Dx_B ok 2 n m (by decide) v hv).1
  · obtain ⟨v, hv⟩ := al_Dx_some (lt := lt) (ge := ge) (gu := gu) (op := op) (le := le) (how := 2) (show n + m ≤ 20 by omega) 0 (Nat.zero_le n) (Nat.zero_le m)
    exact ⟨v, 0, by omega, hv⟩
  · have k := al_lkx (lt := lt) (ge := ge) (gu := gu) (op := op) (le := le) (n := n) (m := m) 2 2 v
    constructor
    · rintro (q | ⟨j, hj, s, hs, q⟩)
      · exact absurd q id
      · obtain ⟨i', j', h3, h4⟩ := k.mp ⟨n, j, s, m_b2.mpr ⟨rfl, by omega⟩, hs, q⟩
        have h5 := x_may2.mp h3
        subst h5
        refine ⟨i', ?_, h4⟩
        rcases Nat.lt_or_ge n i' with z | z
        · rw [al_Dx_out (Or.inl z)] at h4; exact absurd h4 (by decide)
        · omega
    · rintro ⟨i, hi, q⟩
      obtain ⟨i', j', s, h3, hs, h4⟩ := k.mpr ⟨i, 0, x_may2.mpr rfl, q⟩
      obtain ⟨rfl, h6⟩ := m_b2.mp h3
      exact Or.inr ⟨j', by omega, s, hs, h4⟩
  · constructor
    · rintro (q | ⟨j, hj, q⟩)
      · exact ⟨0, by omega, q⟩
      · exact ⟨j, hj, q⟩
    · rintro ⟨j, hj, q⟩
      exact Or.inr ⟨j, hj, q⟩
theorem law_paired (ok : al_ok ge gu op le) (hn : n ≤ 10) (hm : m ≤ 10) (t t1 t2 : al_T) (b : Nat → Int32) {i j : Nat} (hi : i < n) (hj : j < m) :
    (if x_bat (x_frt lt ge gu op le 0 m (n + 1) t).1 i j + x_gain lt ge gu i j + (x_bhl lt ge gu op le n m (n + 1) b) (11 * (i + 1) + j + 1) = x_bat (x_frt lt ge gu op le 0 m (n + 1) t).1 n m then nI 1 else nI 0)
      = if (m_wrk lt ge gu op le 0 i j (i + 1) t1).1 0 + x_gain lt ge gu i j + (m_wrk lt ge gu op le 0 n m (n + 1) t2).1 (((i + 1) * 11 + j + 1) * 3) = (m_wrk lt ge gu op le 0 n m (n + 1) t2).1 0 then nI 1 else nI 0 := by
  have e1 := law_best (lt := lt) ok hn hm t t1 (show i ≤ n by omega) (show j ≤ m by omega)
  have e2 := law_best (lt := lt) ok hn hm t t2 (Nat.le_refl n) (Nat.le_refl m)
  have e3 : (x_bhl lt ge gu op le n m (n + 1) b) (11 * (i + 1) + j + 1) = (m_wrk lt ge gu op le 0 n m (n + 1) t2).1 (((i + 1) * 11 + j + 1) * 3) := by
    have a1 := x_behind_m (lt := lt) ok hn hm b (show i + 1 ≤ n by omega) (show j + 1 ≤ m by omega) (show 0 < 3 by decide)
    have a2 := al_X_m (m_work_X (lt := lt) (how := 0) ok hn hm t2 (show i + 1 ≤ n by omega) (show j + 1 ≤ m by omega))
    rw [show 121 * 0 + 11 * (i + 1) + (j + 1) = 11 * (i + 1) + j + 1 by omega] at a1
    rw [show ((i + 1) * 11 + (j + 1)) * 3 = ((i + 1) * 11 + j + 1) * 3 by omega] at a2
    exact al_m_one a1 a2
  rw [e1, e2, e3]
/-- both walks along the columns -/
theorem law_walk {st st' : Nat → Nat → Nat → Nat} (hst : ∀ i j s, i ≤ n → j ≤ m → s < 3 → ¬ (i = n ∧ j = m) → st i j s = st' i j s ∧ st i j s < 3 ∧ (st i j s = 2 ∨ i + 1 ≤ n) ∧ (st i j s = 1 ∨ j + 1 ≤ m)) (hn : n ≤ 10) (hm : m ≤ 10) :
    ∀ (f i j s k : Nat) (cs : Nat → Int32), i ≤ n → j ≤ m → s < 3 → (n - i) + (m - j) < f → k + (n - i) + (m - j) ≤ 20 →
      (k ≤ (x_fnd st n m f i j s k cs).1 ∧ (x_fnd st n m f i j s k cs).1 ≤ k + (n - i) + (m - j)) ∧ (∀ w, w < k → (x_fnd st n m f i j s k cs).2 w = cs w) ∧
      m_wlk st' n m (-1) f i j s k = nI (x_fnd st n m f i j s k cs).1 ∧
      ∀ w, w < 2 ^ 31 → k ≤ w → m_wlk st' n m (nI w) f i j s k = if w < (x_fnd st n m f i j s k cs).1 then (x_fnd st n m f i j s k cs).2 w else -1000 := by
  intro f
  induction f with
  | zero => intro i j s k cs h1 h2 h3 h4; exact absurd h4 (by omega)
  | succ f ih =>
    intro i j s k cs h1 h2 h3 h4 h5
    by_cases he : i < n ∨ j < m
    · have hne : ¬ (i = n ∧ j = m) := by omega
      obtain ⟨g1, g2, g3, g4⟩ := hst i j s h1 h2 h3 hne
      have e1 : x_fnd st n m (f + 1) i j s k cs = x_fnd st n m f (if st i j s = 2 then i else i + 1) (if st i j s = 1 then j else j + 1) (st i j s) (k + 1) (upd cs k (nI (st i j s))) := if_pos he
      have e2 : ∀ want, m_wlk st' n m want (f + 1) i j s k = if nI k = want then nI (st' i j s) else m_wlk st' n m want f (if st' i j s = 2 then i else i + 1) (if st' i j s = 1 then j else j + 1) (st' i j s) (k + 1) := fun want => if_neg hne
      rw [← g1] at e2
      simp only [e1, e2]
      generalize st i j s = sg at g2 g3 g4 ⊢
      have hi' : (if sg = 2 then i else i + 1) ≤ n ∧ (n - (if sg = 2 then i else i + 1)) + (if sg = 2 then 0 else 1) = n - i := by
        by_cases q : sg = 2
        · rw [if_pos q, if_pos q]; omega
        · rw [if_neg q, if_neg q]; omega
      have hj' : (if sg = 1 then j else j + 1) ≤ m ∧ (m - (if sg = 1 then j else j + 1)) + (if sg = 1 then 0 else 1) = m - j := by
        by_cases q : sg = 1
        · rw [if_pos q, if_pos q]; omega
        · rw [if_neg q, if_neg q]; omega
      have hsum : 1 ≤ (if sg = 2 then 0 else 1) + (if sg = 1 then 0 else 1 : Nat) := by
        by_cases q : sg = 2
        · rw [if_pos q, if_neg (by omega)]; omega
        · rw [if_neg q]; omega
      generalize (if sg = 2 then 0 else 1 : Nat) = p1 at hi' hsum
      generalize (if sg = 1 then 0 else 1 : Nat) = p2 at hj' hsum
      generalize (if sg = 2 then i else i + 1) = i' at hi' ⊢
      generalize (if sg = 1 then j else j + 1) = j' at hj' ⊢
      obtain ⟨a1, a2, a3, a4⟩ := ih i' j' sg (k + 1) (upd cs k (nI sg)) hi'.1 hj'.1 g2 (by omega) (by omega)
      refine ⟨⟨by omega, by omega⟩, fun w hw => ?_, ?_, fun w hw hk => ?_⟩
      · rw [a2 w (by omega), pk_un (by omega)]
      · rw [if_neg (fun q => by
          have z := nI_toInt (show k < 2 ^ 31 by omega)
          rw [q] at z
          have z2 : (-1 : Int32).toInt = -1 := by decide +kernel
          omega)]
        exact a3
      · by_cases q : k = w
        · subst q
          rw [if_pos rfl, if_pos (by omega), a2 k (by omega), pk_us]
        · rw [if_neg (fun z => q ((nI_eq (by omega) hw).mp z))]
          exact a4 w hw (by omega)
    · have hend : i = n ∧ j = m := by omega
      have e1 : x_fnd st n m (f + 1) i j s k cs = (k, cs) := if_neg he
      have e2 : ∀ want, m_wlk st' n m want (f + 1) i j s k = if 0 ≤ want then -1000 else nI k := fun want => if_pos hend
      simp only [e1, e2]
      refine ⟨⟨Nat.le_refl _, by omega⟩, fun _ _ => trivial, if_neg (by decide +kernel), fun w hw hk => ?_⟩
      rw [if_pos (nI_pos' hw), if_neg (by omega)]
theorem law_fnd (ok : al_ok ge gu op le) (hn : n ≤ 10) (hm : m ≤ 10) (b : Nat → Int32) (t : al_T) (cs : Nat → Int32) :
    (x_fnd (x_srt lt ge gu op le n m (x_bhl lt ge gu op le n m (n + 1) b)) n m 21 0 0 0 0 cs).1 ≤ 20 ∧
    m_wlk (m_srt lt ge gu op le (m_wrk lt ge gu op le 0 n m (n + 1) t).1 n m) n m (-1) 21 0 0 0 0 = nI (x_fnd (x_srt lt ge gu op le n m (x_bhl lt ge gu op le n m (n + 1) b)) n m 21 0 0 0 0 cs).1 ∧
    ∀ w, w < 2 ^ 31 → m_wlk (m_srt lt ge gu op le (m_wrk lt ge gu op le 0 n m (n + 1) t).1 n m) n m (nI w) 21 0 0 0 0 = if w < (x_fnd (x_srt lt ge gu op le n m (x_bhl lt ge gu op le n m (n + 1) b)) n m 21 0 0 0 0 cs).1 then (x_fnd (x_srt lt ge gu op le n m (x_bhl lt ge gu op le n m (n + 1) b)) n m 21 0 0 0 0 cs).2 w else -1000 := by
  obtain ⟨a1, a2, a3, a4⟩ := law_walk (n := n) (m := m) (st := x_srt lt ge gu op le n m (x_bhl lt ge gu op le n m (n + 1) b)) (st' := m_srt lt ge gu op le (m_wrk lt ge gu op le 0 n m (n + 1) t).1 n m) (fun i j s h1 h2 h3 h4 => ⟨x_m_srt ok hn hm b t h1 h2 h3, x_srt_lt _ _ _ _ _ _ _ _ _ _ _, x_srt_box ok hn hm b h1 h2 h3 h4⟩) hn hm 21 0 0 0 0 cs (Nat.zero_le _) (Nat.zero_le _) (by decide) (by omega) (by omega)
  exact ⟨by omega, a3, fun w hw => a4 w hw (Nat.zero_le _)⟩
theorem m_srt_box (ok : al_ok ge gu op le) (hn : n ≤ 10) (hm : m ≤ 10) (t : al_T) {i j s : Nat} (hi : i ≤ n) (hj : j ≤ m) (hs : s < 3) (he : ¬ (i = n ∧ j = m)) :
    (m_srt lt ge gu op le (m_wrk lt ge gu op le 0 n m (n + 1) t).1 n m i j s = 2 ∨ i + 1 ≤ n) ∧ (m_srt lt ge gu op le (m_wrk lt ge gu op le 0 n m (n + 1) t).1 n m i j s = 1 ∨ j + 1 ≤ m) := by
  rw [← x_m_srt ok hn hm (fun _ => 0) t hi hj hs]
  exact x_srt_box ok hn hm (fun _ => 0) hi hj hs he
end LAWS
end
section
/-! THE PAIRS: a call of the class and the same call of the reference, from two worlds that tell of one state: one answer, and the worlds tell of one state again -/
def pr_ok (cn : Nat → Nat) (ge gu op le : Int32) : Prop := cn 0 ≤ 10 ∧ cn 1 ≤ 10 ∧ al_ok ge gu op le
/-- the two worlds tell of one state -/
def pr_W (q : Nat → Nat) (d : Nat → ClassId) (q' : Nat → Nat) (d' : Nat → ClassId) (w w' : va_W) : Prop :=
  ∃ (cn : Nat → Nat) (lt : Nat → Int32) (ge gu op le : Int32) (fr fw bh : Nat → Int32) (fd cc : Nat) (cs sc ct : Nat → Int32), pr_ok cn ge gu op le ∧ w = xw q d cn lt ge gu op le fr fw bh fd cc cs ∧ w' = mw q' d' lt cn ge gu op le sc ct
/-- a pair of calls -/
def pr_P (l : Launch) (D : va_G) (q : Nat → Nat) (d : Nat → ClassId) (q' : Nat → Nat) (d' : Nat → ClassId) (yX : MethodName) (bX : ByteArray) (LX fX oX : Nat) (yM : MethodName) (bM : ByteArray) (LM fM oM : Nat) (ret : FieldType) (As : List Value) : Prop :=
  ∀ w w' : va_W, pr_W q d q' d' w w' → ∃ (r : Int32) (w1 w1' : va_W), pr_W q d q' d' w1 w1' ∧ Ci l yX bX LX ret fX oX D vwCl (xt d) (.ref (q 0) :: As) w r w1 ∧ Ci l yM bM LM ret fM oM D vwCl (mt d') (.ref (q' 0) :: As) w' r w1'
theorem Ci.ans {l : Launch} {y : MethodName} {cc : ByteArray} {maxL : Nat} {ret : FieldType} {fr lo : Nat} {D : va_G} {cl : List vw_C} {tys : List (ClassId × FieldType)} {av : List Value} {w : va_W} {r r' : Int32} {w' : va_W} (h : r = r') (C : Ci l y cc maxL ret fr lo D cl tys av w r w') : Ci l y cc maxL ret fr lo D cl tys av w r' w' := h ▸ C
theorem pr_n9 : (-9 : Int32).toInt = -9 := by decide +kernel
theorem pr_9 : (nI 9).toInt = 9 := by decide +kernel
theorem pr_0 : (0 : Int32).toInt = 0 := by decide +kernel
theorem pr_le {a : Int32} {n : Nat} (h : ¬ nI n < a) : a ≤ nI n := by
  rw [al_lt] at h
  rw [al_le]
  omega
theorem pr_len (cn : Nat → Nat) (a x : Nat) (h0 : cn 0 ≤ 10) (h1 : cn 1 ≤ 10) (hx : x ≤ 10) : tw_un cn a x 0 ≤ 10 ∧ tw_un cn a x 1 ≤ 10 := by
  unfold tw_un
  constructor
  · by_cases h : 0 = a
    · rw [if_pos h]; exact hx
    · rw [if_neg h]; exact h0
  · by_cases h : 1 = a
    · rw [if_pos h]; exact hx
    · rw [if_neg h]; exact h1
section PAIRS
variable (l : Launch) (D : va_G) (q : Nat → Nat) (d : Nat → ClassId) (q' : Nat → Nat) (d' : Nat → ClassId)
theorem pr_best : pr_P l D q d q' d' yX0_best cX0_best 1 4 99 yX1_best cX1_best 1 3 77 .int [] := by
  rintro _ _ ⟨cn, lt, ge, gu, op, le, fr, fw, bh, fd, cc, cs, sc, ct, ⟨h1, h2, ok⟩, rfl, rfl⟩
  have e := law_best (lt := lt) ok h1 h2 (fr, fw) (sc, ct) (Nat.le_refl (cn 0)) (Nat.le_refl (cn 1))
  refine ⟨_, _, _, ?_, Ci.ans e (kX0_best l D q d cn lt ge gu op le fr fw bh fd cc cs h1 h2), kX1_best l D q' d' lt cn ge gu op le sc ct h1 h2⟩
  exact ⟨cn, lt, ge, gu, op, le, _, _, bh, 0, cc, cs, _, _, ⟨h1, h2, ok⟩, rfl, rfl⟩
theorem pr_ways : pr_P l D q d q' d' yX0_ways cX0_ways 5 5 119 yX1_ways cX1_ways 1 3 77 .int [] := by
  rintro _ _ ⟨cn, lt, ge, gu, op, le, fr, fw, bh, fd, cc, cs, sc, ct, ⟨h1, h2, ok⟩, rfl, rfl⟩
  have e := law_ways (lt := lt) ok h1 h2 (fr, fw) (sc, ct)
  refine ⟨_, _, _, ?_, Ci.ans e (kX0_ways l D q d cn lt ge gu op le fr fw bh fd cc cs h1 h2), kX1_ways l D q' d' lt cn ge gu op le sc ct h1 h2⟩
  exact ⟨cn, lt, ge, gu, op, le, _, _, bh, 0, cc, cs, _, _, ⟨h1, h2, ok⟩, rfl, rfl⟩
theorem pr_local : pr_P l D q d q' d' yX0_local cX0_local 5 4 99 yX1_local cX1_local 4 3 77 .int [] := by
  rintro _ _ ⟨cn, lt, ge, gu, op, le, fr, fw, bh, fd, cc, cs, sc, ct, ⟨h1, h2, ok⟩, rfl, rfl⟩
  have e := law_local (lt := lt) ok h1 h2 (fr, fw) (sc, ct)
  refine ⟨_, _, _, ?_, Ci.ans e (kX0_local l D q d cn lt ge gu op le fr fw bh fd cc cs h1 h2), kX1_local l D q' d' lt cn ge gu op le sc ct h1 h2⟩
  exact ⟨cn, lt, ge, gu, op, le, _, _, bh, 3, cc, cs, _, _, ⟨h1, h2, ok⟩, rfl, rfl⟩
theorem pr_fitted : pr_P l D q d q' d' yX0_fitted cX0_fitted 4 4 99 yX1_fitted cX1_fitted 3 3 77 .int [] := by
  rintro _ _ ⟨cn, lt, ge, gu, op, le, fr, fw, bh, fd, cc, cs, sc, ct, ⟨h1, h2, ok⟩, rfl, rfl⟩
  have e := law_fitted (lt := lt) ok h1 h2 (fr, fw) (sc, ct)
  refine ⟨_, _, _, ?_, Ci.ans e (kX0_fitted l D q d cn lt ge gu op le fr fw bh fd cc cs h1 h2), kX1_fitted l D q' d' lt cn ge gu op le sc ct h1 h2⟩
  exact ⟨cn, lt, ge, gu, op, le, _, _, bh, 1, cc, cs, _, _, ⟨h1, h2, ok⟩, rfl, rfl⟩
theorem pr_overlap : pr_P l D q d q' d' yX0_overlap cX0_overlap 4 4 99 yX1_overlap cX1_overlap 3 3 77 .int [] := by
  rintro _ _ ⟨cn, lt, ge, gu, op, le, fr, fw, bh, fd, cc, cs, sc, ct, ⟨h1, h2, ok⟩, rfl, rfl⟩
  have e := law_overlap (lt := lt) ok h1 h2 (fr, fw) (sc, ct)
  refine ⟨_, _, _, ?_, Ci.ans e (kX0_overlap l D q d cn lt ge gu op le fr fw bh fd cc cs h1 h2), kX1_overlap l D q' d' lt cn ge gu op le sc ct h1 h2⟩
  exact ⟨cn, lt, ge, gu, op, le, _, _, bh, 2, cc, cs, _, _, ⟨h1, h2, ok⟩, rfl, rfl⟩
theorem pr_columns : pr_P l D q d q' d' yX0_columns cX0_columns 1 5 123 yX1_columns cX1_columns 1 5 123 .int [] := by
  rintro _ _ ⟨cn, lt, ge, gu, op, le, fr, fw, bh, fd, cc, cs, sc, ct, ⟨h1, h2, ok⟩, rfl, rfl⟩
  have e := (law_fnd (lt := lt) ok h1 h2 bh (sc, ct) cs).2.1
  refine ⟨_, _, _, ?_, Ci.ans e.symm (kX0_columns l D q d cn lt ge gu op le fr fw bh fd cc cs h1 h2 (fun i j s a1 a2 a3 a4 => x_srt_box ok h1 h2 bh a1 a2 a3 a4)), kX1_columns l D q' d' lt cn ge gu op le sc ct h1 h2 (fun i j s a1 a2 a3 a4 => m_srt_box ok h1 h2 (sc, ct) a1 a2 a3 a4)⟩
  exact ⟨cn, lt, ge, gu, op, le, _, _, _, fd, _, _, _, _, ⟨h1, h2, ok⟩, rfl, rfl⟩
theorem pr_column (a : Int32) : pr_P l D q d q' d' yX0_column cX0_column 2 5 123 yX1_column cX1_column 2 5 123 .int [.int a] := by
  rintro _ _ ⟨cn, lt, ge, gu, op, le, fr, fw, bh, fd, cc, cs, sc, ct, ⟨h1, h2, ok⟩, rfl, rfl⟩
  obtain ⟨e1, -, e3⟩ := law_fnd (lt := lt) ok h1 h2 bh (sc, ct) cs
  have b1 := fun (i j s : Nat) a1 a2 a3 a4 => x_srt_box (lt := lt) (i := i) (j := j) (s := s) ok h1 h2 bh a1 a2 a3 a4
  have b2 := fun (i j s : Nat) a1 a2 a3 a4 => m_srt_box (lt := lt) (i := i) (j := j) (s := s) ok h1 h2 (sc, ct) a1 a2 a3 a4
  by_cases hn : a < 0
  · refine ⟨_, _, _, ?_, kX0_column_out l D q d cn lt ge gu op le fr fw bh fd cc cs a h1 h2 b1 (Or.inl hn), kX1_column_neg l D q' d' lt cn ge gu op le sc ct a hn⟩
    exact ⟨cn, lt, ge, gu, op, le, _, _, _, fd, _, _, _, _, ⟨h1, h2, ok⟩, rfl, rfl⟩
  · obtain ⟨k, hk, rfl⟩ := nI_of hn
    have e4 := e3 k hk
    by_cases hlt : k < (x_fnd (x_srt lt ge gu op le (cn 0) (cn 1) (x_bhl lt ge gu op le (cn 0) (cn 1) (cn 0 + 1) bh)) (cn 0) (cn 1) 21 0 0 0 0 cs).1
    · rw [if_pos hlt] at e4
      refine ⟨_, _, _, ?_, Ci.ans e4.symm (kX0_column_in l D q d cn lt ge gu op le fr fw bh fd cc cs k h1 h2 b1 hlt e1), kX1_column_pos l D q' d' lt cn ge gu op le sc ct (nI k) h1 h2 b2 hn⟩
      exact ⟨cn, lt, ge, gu, op, le, _, _, _, fd, _, _, _, _, ⟨h1, h2, ok⟩, rfl, rfl⟩
    · rw [if_neg hlt] at e4
      refine ⟨_, _, _, ?_, Ci.ans e4.symm (kX0_column_out l D q d cn lt ge gu op le fr fw bh fd cc cs (nI k) h1 h2 b1 (Or.inr (nI_le (Nat.not_lt.mp hlt) hk))), kX1_column_pos l D q' d' lt cn ge gu op le sc ct (nI k) h1 h2 b2 hn⟩
      exact ⟨cn, lt, ge, gu, op, le, _, _, _, fd, _, _, _, _, ⟨h1, h2, ok⟩, rfl, rfl⟩
theorem pr_paired (a b : Int32) : pr_P l D q d q' d' yX0_paired cX0_paired 5 5 119 yX1_paired cX1_paired 5 4 97 .boolean [.int a, .int b] := by
  rintro _ _ ⟨cn, lt, ge, gu, op, le, fr, fw, bh, fd, cc, cs, sc, ct, ⟨h1, h2, ok⟩, rfl, rfl⟩
  have out : (a < 0 ∨ nI (cn 0) ≤ a ∨ b < 0 ∨ nI (cn 1) ≤ b) ∨ ∃ i j : Nat, (i < cn 0 ∧ a = nI i) ∧ (j < cn 1 ∧ b = nI j) := by
    rcases pk_ix a (n := cn 0) (by omega) with h | h | ⟨i, hi⟩
    · exact Or.inl (Or.inl h)
    · exact Or.inl (Or.inr (Or.inl h))
    · rcases pk_ix b (n := cn 1) (by omega) with h | h | ⟨j, hj⟩
      · exact Or.inl (Or.inr (Or.inr (Or.inl h)))
      · exact Or.inl (Or.inr (Or.inr (Or.inr h)))
      · exact Or.inr ⟨i, j, hi, hj⟩
  rcases out with h | ⟨i, j, ⟨hi, rfl⟩, ⟨hj, rfl⟩⟩
  · refine ⟨_, _, _, ?_, kX0_paired_out l D q d cn lt ge gu op le fr fw bh fd cc cs a b h1 h2 h, kX1_paired_out l D q' d' lt cn ge gu op le sc ct a b h1 h2 h⟩
    exact ⟨cn, lt, ge, gu, op, le, _, _, _, fd, _, _, _, _, ⟨h1, h2, ok⟩, rfl, rfl⟩
  · have e := law_paired (lt := lt) ok h1 h2 (fr, fw) (sc, ct) ((m_wrk lt ge gu op le 0 i j (i + 1) (sc, ct)).1, (m_wrk lt ge gu op le 0 i j (i + 1) (sc, ct)).2) bh hi hj
    refine ⟨_, _, _, ?_, Ci.ans e (kX0_paired_in l D q d cn lt ge gu op le fr fw bh fd cc cs i j h1 h2 hi hj), kX1_paired_in l D q' d' lt cn ge gu op le sc ct i j h1 h2 hi hj⟩
    exact ⟨cn, lt, ge, gu, op, le, _, _, _, 0, _, _, _, _, ⟨h1, h2, ok⟩, rfl, rfl⟩
theorem pr_type (a b : Int32) : pr_P l D q d q' d' yX0_type cX0_type 3 0 0 yX1_type cX1_type 3 0 0 .int [.int a, .int b] := by
  rintro _ _ ⟨cn, lt, ge, gu, op, le, fr, fw, bh, fd, cc, cs, sc, ct, ⟨h1, h2, ok⟩, rfl, rfl⟩
  by_cases h : a < 0 ∨ nI 1 < a ∨ b < 0 ∨ nI 3 < b
  · refine ⟨_, _, _, ?_, kX0_type_bad l D q d cn lt ge gu op le fr fw bh fd cc cs a b h, kX1_type_bad l D q' d' lt cn ge gu op le sc ct a b h⟩
    exact ⟨cn, lt, ge, gu, op, le, _, _, _, fd, _, _, _, _, ⟨h1, h2, ok⟩, rfl, rfl⟩
  · obtain ⟨i, hi, rfl⟩ := nI_of2 (x := a) (M := nI 1) (n := 1) (by decide +kernel) (fun z => h (Or.inl z)) (pr_le (fun z => h (Or.inr (Or.inl z))))
    obtain ⟨j, hj, rfl⟩ := nI_of2 (x := b) (M := nI 3) (n := 3) (by decide +kernel) (fun z => h (Or.inr (Or.inr (Or.inl z)))) (pr_le (fun z => h (Or.inr (Or.inr (Or.inr z)))))
    have hc : cn i ≤ 10 := by
      rcases (show i = 0 ∨ i = 1 by omega) with rfl | rfl
      · exact h1
      · exact h2
    by_cases hf : cn i = 10
    · refine ⟨_, _, _, ?_, kX0_type_full l D q d cn lt ge gu op le fr fw bh fd cc cs i j (by omega) (by omega) hf, kX1_type_full l D q' d' lt cn ge gu op le sc ct i j (by omega) (by omega) hf⟩
      exact ⟨cn, lt, ge, gu, op, le, _, _, _, fd, _, _, _, _, ⟨h1, h2, ok⟩, rfl, rfl⟩
    · have k := kX0_type_ok l D q d cn lt ge gu op le fr fw bh fd cc cs i j (by omega) (by omega) (by omega)
      rw [Nat.mul_comm 10 i] at k
      refine ⟨_, _, _, ?_, k, kX1_type_ok l D q' d' lt cn ge gu op le sc ct i j (by omega) (by omega) (by omega)⟩
      have z := pr_len cn i (cn i + 1) h1 h2 (by omega)
      exact ⟨_, _, ge, gu, op, le, _, _, _, fd, _, _, _, _, ⟨z.1, z.2, ok⟩, rfl, rfl⟩
theorem pr_wipe (a : Int32) : pr_P l D q d q' d' yX0_wipe cX0_wipe 3 0 0 yX1_wipe cX1_wipe 3 0 0 .int [.int a] := by
  rintro _ _ ⟨cn, lt, ge, gu, op, le, fr, fw, bh, fd, cc, cs, sc, ct, ⟨h1, h2, ok⟩, rfl, rfl⟩
  by_cases h : a < 0 ∨ nI 1 < a
  · refine ⟨_, _, _, ?_, kX0_wipe_bad l D q d cn lt ge gu op le fr fw bh fd cc cs a h, kX1_wipe_bad l D q' d' lt cn ge gu op le sc ct a h⟩
    exact ⟨cn, lt, ge, gu, op, le, _, _, _, fd, _, _, _, _, ⟨h1, h2, ok⟩, rfl, rfl⟩
  · obtain ⟨i, hi, rfl⟩ := nI_of2 (x := a) (M := nI 1) (n := 1) (by decide +kernel) (fun z => h (Or.inl z)) (pr_le (fun z => h (Or.inr z)))
    refine ⟨_, _, _, ?_, kX0_wipe_ok l D q d cn lt ge gu op le fr fw bh fd cc cs i (by omega), kX1_wipe_ok l D q' d' lt cn ge gu op le sc ct i (by omega)⟩
    have z := pr_len cn i 0 h1 h2 (by omega)
    exact ⟨_, _, ge, gu, op, le, _, _, _, fd, _, _, _, _, ⟨z.1, z.2, ok⟩, rfl, rfl⟩
theorem pr_rules (a b o t : Int32) : pr_P l D q d q' d' yX0_rules cX0_rules 5 0 0 yX1_rules cX1_rules 5 0 0 .boolean [.int a, .int b, .int o, .int t] := by
  rintro _ _ ⟨cn, lt, ge, gu, op, le, fr, fw, bh, fd, cc, cs, sc, ct, ⟨h1, h2, ok⟩, rfl, rfl⟩
  by_cases h : a < -9 ∨ nI 9 < a ∨ b < -9 ∨ nI 9 < b ∨ o < 0 ∨ nI 9 < o ∨ t < 0 ∨ nI 9 < t
  · refine ⟨_, _, _, ?_, kX0_rules_bad l D q d cn lt ge gu op le fr fw bh fd cc cs a b o t h, kX1_rules_bad l D q' d' lt cn ge gu op le sc ct a b o t h⟩
    exact ⟨cn, lt, ge, gu, op, le, _, _, _, fd, _, _, _, _, ⟨h1, h2, ok⟩, rfl, rfl⟩
  · have g1 : ¬ a < -9 := fun z => h (Or.inl z)
    have g2 : ¬ nI 9 < a := fun z => h (Or.inr (Or.inl z))
    have g3 : ¬ b < -9 := fun z => h (Or.inr (Or.inr (Or.inl z)))
    have g4 : ¬ nI 9 < b := fun z => h (Or.inr (Or.inr (Or.inr (Or.inl z))))
    have g5 : ¬ o < 0 := fun z => h (Or.inr (Or.inr (Or.inr (Or.inr (Or.inl z)))))
    have g6 : ¬ nI 9 < o := fun z => h (Or.inr (Or.inr (Or.inr (Or.inr (Or.inr (Or.inl z))))))
    have g7 : ¬ t < 0 := fun z => h (Or.inr (Or.inr (Or.inr (Or.inr (Or.inr (Or.inr (Or.inl z)))))))
    have g8 : ¬ nI 9 < t := fun z => h (Or.inr (Or.inr (Or.inr (Or.inr (Or.inr (Or.inr (Or.inr z)))))))
    refine ⟨_, _, _, ?_, kX0_rules_ok l D q d cn lt ge gu op le fr fw bh fd cc cs a b o t g1 g2 g3 g4 g5 g6 g7 g8, kX1_rules_ok l D q' d' lt cn ge gu op le sc ct a b o t g1 g2 g3 g4 g5 g6 g7 g8⟩
    have ok2 : al_ok a b o t := by
      rw [al_lt, pr_n9] at g1 g3
      rw [al_lt, pr_9] at g2 g4 g6 g8
      rw [al_lt, pr_0] at g5 g7
      exact ⟨⟨by omega, by omega⟩, ⟨by omega, by omega⟩, ⟨by omega, by omega⟩, ⟨by omega, by omega⟩⟩
    exact ⟨cn, lt, _, _, _, _, _, _, _, fd, _, _, _, _, ⟨h1, h2, ok2⟩, rfl, rfl⟩
end PAIRS
end
section
set_option maxRecDepth 100000
/-! THE CLAIM OUT OF ONE WALK OF THE LAW'S BODY. Your part is whole_start (and what it stands on); all else here is the same for every law, but numbers. -/
def R_law : String := "AffineAlignerLaw"
def lw_P (b : Addr) (xs : List Int32) (args : Array Value) (s : State) : Prop := args = #[.ref b] ∧ s.IntsAt b xs ∧ xs.length ≤ 320 ∧ (Jvm.Cond.and given_1 narrow_1).before args s = true
def lw_Q (_ : Array Value) (s : State) (o : Outcome) (t : State) : Prop := o = .returned (some (.int 1)) ∧ Framed s o t [] 600000 7290000
def lw_Z (below : List Frame) (a : Array Value) (s : State) : State → Prop := fun t => ∃ o, t.status = .running ∧ Ended t below o ∧ lw_Q a s o t
/-- the law's own end, with 1 on the stack, nothing written that was there before, its room as the claim has it -/
theorem lw_ret {p : Program} {l : Launch} {e : Env} {s : State} {m : MethodId} {below : List Frame} {meth : Method} {c : Code} {b : Nat} (hx : p.tables.exec = Jvm.exec) (hb : c.code = code) (hr : meth.sig.returnType = ret) (hlocks : meth.locks = false) {pc : Nat} {H : Heap} {ls : Array Slot} (hdg : decode code pc = .ok (.ireturn, 1)) : W p l e room_1 s m #[Value.ref b] below meth c H [] 600000 7290000 (lw_Z below #[Value.ref b] s) (F0 m pc ls [.int 1]) := by
  intro T hT X
  obtain ⟨fs, hret, hrun, hended, hW, hframe⟩ := X.leave (v := some (.int 1)) (hlocks := hlocks) (fun h => by rw [hr] at h; cases h)
  have hmeth' : T.vm.method? m = some meth := X.method'
  refine ⟨T.setFrames fs, ?_, .returned (some (.int 1)), hrun, hended, rfl, ⟨_, rfl⟩, hW, hframe⟩
  jvm_step X.here [X.here.top, hx, hb, hdg, hmeth', hr, ret, narrow_b1]
  (try refine ⟨rfl, ?_⟩); (try refine ⟨rfl, ?_⟩)
  first | (intro acts; rw [hret _ acts rfl rfl rfl]) | rw [hret _ _ rfl rfl rfl]
  exact Steps.refl _
/-- what holds at the law's entry: the machine, the code, the tables' words (any of lw_tbl by 'hts w (by decide +kernel)'), the script of L ints xs at the cell b, what the Statement gives of the start (any of its parts by flat_of_before) -/
def lw_At (p : Program) (s : State) (m : MethodId) (meth : Method) (c : Code) (b L : Nat) (xs : Nat → Int32) : Prop :=
  p.tables.exec = Jvm.exec ∧ c.code = code ∧ meth.sig.returnType = ret ∧ c.maxLocals = 4 ∧ s.vm.findClass R_law = some m.cls ∧ (∀ w ∈ lw_tbl, w.before #[Value.ref b] s = true) ∧ va_X b L xs s s.heap ∧ b < s.heap.size ∧ meth.locks = false ∧ (Jvm.Cond.and given_1 narrow_1).before #[Value.ref b] s = true
section TWS
variable {p : Program} {l : Launch} {e : Env} {R : Room} {s : State} {m : MethodId} {args : Array Value} {below : List Frame} {meth : Method} {c : Code} {H H0 : Heap} {locs : List Loc} {cells slots : Nat} {Q : State → Prop}
variable {cc : ByteArray} {pc : Nat} {ls : Array Slot} {rest : List Value} {A : Nat → Prop}
/-- an int of the script, by a number -/
theorem tw_sld (hexec : p.tables.exec = Jvm.exec) (hb : c.code = cc) {b L : Nat} {xs : Nat → Int32} (hX : va_X b L xs s H0) (hbl : b < H0.size) (hbA : ¬ A b) (hS : va_S A H0 H locs) {i : Nat} (hin : i < L) (hn : L < 2 ^ 31) (hdg : decode cc pc = .ok (.iaload, 1))
    (kk : W p l e R s m args below meth c H locs cells slots Q (F0 m (pc + 1) ls (.int (xs i) :: rest))) : W p l e R s m args below meth c H locs cells slots Q (F0 m pc ls (.int (nI i) :: .ref b :: rest)) :=
  va_sld hexec hb hX hbl hbA hS (vp_in_nI hin hn) hdg (by rw [nI_clamp (Nat.lt_trans hin hn)]; exact kk)
end TWS
/-- the law's locals -/
abbrev lc_L (b : Nat) (q q' : Nat → Nat) (i : Nat) : List (Nat × Value) := [(0, .ref b), (1, .ref (q 0)), (2, .ref (q' 0)), (3, .int (nI i))]
/-- from every two worlds that tell of one state the law comes from pc to its end -/
def lc_G (p : Program) (l : Launch) (e : Env) (s : State) (m : MethodId) (below : List Frame) (meth : Method) (c : Code) (b : Nat) (A : Nat → Prop) (D : va_G) (q : Nat → Nat) (d : Nat → ClassId) (q' : Nat → Nat) (d' : Nat → ClassId) (cells slots : Nat) (Q : State → Prop) (ls : Array Slot) (pc : Nat) : Prop :=
  ∀ (w w' : va_W) (H : Heap) (locs : List Loc), pr_W q d q' d' w w' → va_P D vwCl (w ++ w') H → va_D A (w ++ w') → va_S A s.heap H locs → W p l e room_1 s m #[Value.ref b] below meth c H locs cells slots Q (F0 m pc ls [])
section CASES
variable {p : Program} {l : Launch} {e : Env} {s : State} {m : MethodId} {below : List Frame} {meth : Method} {c : Code} {b L : Nat} {xs : Nat → Int32} {A : Nat → Prop} {D : va_G} {q : Nat → Nat} {d : Nat → ClassId} {q' : Nat → Nat} {d' : Nat → ClassId} {cells slots : Nat} {Q : State → Prop} {ls : Array Slot} {i : Nat}
set_option maxHeartbeats 4000000 in
set_option maxRecDepth 100000 in
theorem lc_0 (hL : L ≤ 320) (C0 : lw_At p s m meth c b L xs) (hA : ∀ z : Nat, s.heap.size ≤ z → A z) (hbA : ¬ A b) (hi : i + 5 ≤ L) (hK : va_K D vwCl (xt d ++ mt d') s) (hf : cells ≤ room_1.cells ∧ slots ≤ room_1.slots) (hl : lv_has ls 4 (lc_L b q q' i)) (kk : lc_G p l e s m below meth c b A D q d q' d' cells slots Q ls 335) : lc_G p l e s m below meth c b A D q d q' d' cells slots Q ls 92 := by
  obtain ⟨hx, hb, hr, hml, hown, hts0, hX, hbl, hlocks, hgv⟩ := C0
  have hts : ∀ w ∈ lw_all, w.before #[Value.ref b] s = true := fun w h => hts0 w (lw_all_tbl h)
  have S : CallFix p m c cL_law 4 s #[Value.ref b] lw_all R_law := ⟨hx, hb, hml, hown, hts⟩
  intro w w' H locs hW hP hD hS
  obtain ⟨r, w1, w1', hW1, CX, CM⟩ := pr_type l D q d q' d' (xs (i + 1)) (xs (i + 2)) w w' hW
  obtain ⟨cn, lt, ge, gu, op, le, fr, fw, bh, fd, cc, cs, sc, ct, -, rfl, rfl⟩ := hW
  have hW2 := hW1
  obtain ⟨cn1, lt1, ge1, gu1, op1, le1, fr1, fw1, bh1, fd1, cc1, cs1, sc1, ct1, -, rfl, rfl⟩ := hW2
  refine lv_aload_n hx hb dL_law_92 rfl (lv_at hl 1 rfl) ?_
  refine lv_aload_n hx hb dL_law_93 rfl (lv_at hl 0 rfl) ?_
  refine lv_iload_n hx hb dL_law_94 rfl (lv_at hl 3 rfl) ?_
  refine lv_iconst (v := nI 1) hx hb dL_law_95 (by decide +kernel) ?_
  refine tw_iadd hx hb dL_law_96 ?_
  refine tw_sld hx hb hX hbl hbA hS (by omega) (by omega) dL_law_97 ?_
  refine lv_aload_n hx hb dL_law_98 rfl (lv_at hl 0 rfl) ?_
  refine lv_iload_n hx hb dL_law_99 rfl (lv_at hl 3 rfl) ?_
  refine lv_iconst (v := nI 2) hx hb dL_law_100 (by decide +kernel) ?_
  refine tw_iadd hx hb dL_law_101 ?_
  refine tw_sld hx hb hX hbl hbA hS (by omega) (by omega) dL_law_102 ?_
  refine tw_calli (n := 2) (rest := []) (As := [.int (xs (i + 1)), .int (xs (i + 2))]) (wr := mw q' d' lt cn ge gu op le sc ct) CX S (lw_V q69 q70 q71 q20 q72) (by decide +kernel) ⟨Nat.le_of_ble_eq_true rfl, Nat.le_of_ble_eq_true rfl⟩ hK hP hD hS hA [0, 1, 2, 3, 4, 5, 6] [7, 8, 9, 10, 11] [0, 1, 2, 3, 4, 5] rfl rfl (by decide) (by decide) (by decide) rfl (ci := 0) rfl (q0 := 0) rfl rfl rfl hl.1 (Nat.le_of_ble_eq_true rfl) dL_law_103 hf (fun H locs hP hD hS => ?_)
  have hP : va_P D vwCl (mw q' d' lt cn ge gu op le sc ct ++ xw q d cn1 lt1 ge1 gu1 op1 le1 fr1 fw1 bh1 fd1 cc1 cs1) H := hP
  have hD : va_D A (mw q' d' lt cn ge gu op le sc ct ++ xw q d cn1 lt1 ge1 gu1 op1 le1 fr1 fw1 bh1 fd1 cc1 cs1) := hD
  refine lv_aload_n hx hb dL_law_106 rfl (lv_at hl 2 rfl) ?_
  refine lv_aload_n hx hb dL_law_107 rfl (lv_at hl 0 rfl) ?_
  refine lv_iload_n hx hb dL_law_108 rfl (lv_at hl 3 rfl) ?_
  refine lv_iconst (v := nI 1) hx hb dL_law_109 (by decide +kernel) ?_
  refine tw_iadd hx hb dL_law_110 ?_
  refine tw_sld hx hb hX hbl hbA hS (by omega) (by omega) dL_law_111 ?_
  refine lv_aload_n hx hb dL_law_112 rfl (lv_at hl 0 rfl) ?_
  refine lv_iload_n hx hb dL_law_113 rfl (lv_at hl 3 rfl) ?_
  refine lv_iconst (v := nI 2) hx hb dL_law_114 (by decide +kernel) ?_
  refine tw_iadd hx hb dL_law_115 ?_
  refine tw_sld hx hb hX hbl hbA hS (by omega) (by omega) dL_law_116 ?_
  refine tw_calli (n := 2) (rest := [.int r]) (As := [.int (xs (i + 1)), .int (xs (i + 2))]) (wr := xw q d cn1 lt1 ge1 gu1 op1 le1 fr1 fw1 bh1 fd1 cc1 cs1) CM S (lw_V q194 q195 q196 q21 q197) (by decide +kernel) ⟨Nat.le_of_ble_eq_true rfl, Nat.le_of_ble_eq_true rfl⟩ hK hP hD hS hA [0, 1, 2, 3, 4] [5, 6, 7, 8, 9, 10, 11] [6, 7, 8, 9] rfl rfl (by decide) (by decide) (by decide) rfl (ci := 1) rfl (q0 := 0) rfl rfl rfl hl.1 (Nat.le_of_ble_eq_true rfl) dL_law_117 hf (fun H locs hP hD hS => ?_)
  exact lv_icmp_eq (tgt := 335) hx hb dL_law_120 (by decide) (fun _ => kk _ _ _ _ hW1 hP hD hS) (fun h => absurd rfl h)
set_option maxHeartbeats 4000000 in
set_option maxRecDepth 100000 in
theorem lc_1 (hL : L ≤ 320) (C0 : lw_At p s m meth c b L xs) (hA : ∀ z : Nat, s.heap.size ≤ z → A z) (hbA : ¬ A b) (hi : i + 5 ≤ L) (hK : va_K D vwCl (xt d ++ mt d') s) (hf : cells ≤ room_1.cells ∧ slots ≤ room_1.slots) (hl : lv_has ls 4 (lc_L b q q' i)) (kk : lc_G p l e s m below meth c b A D q d q' d' cells slots Q ls 335) : lc_G p l e s m below meth c b A D q d q' d' cells slots Q ls 125 := by
  obtain ⟨hx, hb, hr, hml, hown, hts0, hX, hbl, hlocks, hgv⟩ := C0
  have hts : ∀ w ∈ lw_all, w.before #[Value.ref b] s = true := fun w h => hts0 w (lw_all_tbl h)
  have S : CallFix p m c cL_law 4 s #[Value.ref b] lw_all R_law := ⟨hx, hb, hml, hown, hts⟩
  intro w w' H locs hW hP hD hS
  obtain ⟨r, w1, w1', hW1, CX, CM⟩ := pr_wipe l D q d q' d' (xs (i + 1)) w w' hW
  obtain ⟨cn, lt, ge, gu, op, le, fr, fw, bh, fd, cc, cs, sc, ct, -, rfl, rfl⟩ := hW
  have hW2 := hW1
  obtain ⟨cn1, lt1, ge1, gu1, op1, le1, fr1, fw1, bh1, fd1, cc1, cs1, sc1, ct1, -, rfl, rfl⟩ := hW2
  refine lv_aload_n hx hb dL_law_125 rfl (lv_at hl 1 rfl) ?_
  refine lv_aload_n hx hb dL_law_126 rfl (lv_at hl 0 rfl) ?_
  refine lv_iload_n hx hb dL_law_127 rfl (lv_at hl 3 rfl) ?_
  refine lv_iconst (v := nI 1) hx hb dL_law_128 (by decide +kernel) ?_
  refine tw_iadd hx hb dL_law_129 ?_
  refine tw_sld hx hb hX hbl hbA hS (by omega) (by omega) dL_law_130 ?_
  refine tw_calli (n := 1) (rest := []) (As := [.int (xs (i + 1))]) (wr := mw q' d' lt cn ge gu op le sc ct) CX S (lw_V q73 q74 q75 q20 q76) (by decide +kernel) ⟨Nat.le_of_ble_eq_true rfl, Nat.le_of_ble_eq_true rfl⟩ hK hP hD hS hA [0, 1, 2, 3, 4, 5, 6] [7, 8, 9, 10, 11] [0, 1, 2, 3, 4, 5] rfl rfl (by decide) (by decide) (by decide) rfl (ci := 0) rfl (q0 := 0) rfl rfl rfl hl.1 (Nat.le_of_ble_eq_true rfl) dL_law_131 hf (fun H locs hP hD hS => ?_)
  have hP : va_P D vwCl (mw q' d' lt cn ge gu op le sc ct ++ xw q d cn1 lt1 ge1 gu1 op1 le1 fr1 fw1 bh1 fd1 cc1 cs1) H := hP
  have hD : va_D A (mw q' d' lt cn ge gu op le sc ct ++ xw q d cn1 lt1 ge1 gu1 op1 le1 fr1 fw1 bh1 fd1 cc1 cs1) := hD
  refine lv_aload_n hx hb dL_law_134 rfl (lv_at hl 2 rfl) ?_
  refine lv_aload_n hx hb dL_law_135 rfl (lv_at hl 0 rfl) ?_
  refine lv_iload_n hx hb dL_law_136 rfl (lv_at hl 3 rfl) ?_
  refine lv_iconst (v := nI 1) hx hb dL_law_137 (by decide +kernel) ?_
  refine tw_iadd hx hb dL_law_138 ?_
  refine tw_sld hx hb hX hbl hbA hS (by omega) (by omega) dL_law_139 ?_
  refine tw_calli (n := 1) (rest := [.int r]) (As := [.int (xs (i + 1))]) (wr := xw q d cn1 lt1 ge1 gu1 op1 le1 fr1 fw1 bh1 fd1 cc1 cs1) CM S (lw_V q198 q199 q200 q21 q201) (by decide +kernel) ⟨Nat.le_of_ble_eq_true rfl, Nat.le_of_ble_eq_true rfl⟩ hK hP hD hS hA [0, 1, 2, 3, 4] [5, 6, 7, 8, 9, 10, 11] [6, 7, 8, 9] rfl rfl (by decide) (by decide) (by decide) rfl (ci := 1) rfl (q0 := 0) rfl rfl rfl hl.1 (Nat.le_of_ble_eq_true rfl) dL_law_140 hf (fun H locs hP hD hS => ?_)
  exact lv_icmp_eq (tgt := 335) hx hb dL_law_143 (by decide) (fun _ => kk _ _ _ _ hW1 hP hD hS) (fun h => absurd rfl h)
set_option maxHeartbeats 4000000 in
set_option maxRecDepth 100000 in
theorem lc_2 (hL : L ≤ 320) (C0 : lw_At p s m meth c b L xs) (hA : ∀ z : Nat, s.heap.size ≤ z → A z) (hbA : ¬ A b) (hi : i + 5 ≤ L) (hK : va_K D vwCl (xt d ++ mt d') s) (hf : cells ≤ room_1.cells ∧ slots ≤ room_1.slots) (hl : lv_has ls 4 (lc_L b q q' i)) (kk : lc_G p l e s m below meth c b A D q d q' d' cells slots Q ls 335) : lc_G p l e s m below meth c b A D q d q' d' cells slots Q ls 148 := by
  obtain ⟨hx, hb, hr, hml, hown, hts0, hX, hbl, hlocks, hgv⟩ := C0
  have hts : ∀ w ∈ lw_all, w.before #[Value.ref b] s = true := fun w h => hts0 w (lw_all_tbl h)
  have S : CallFix p m c cL_law 4 s #[Value.ref b] lw_all R_law := ⟨hx, hb, hml, hown, hts⟩
  intro w w' H locs hW hP hD hS
  obtain ⟨r, w1, w1', hW1, CX, CM⟩ := pr_rules l D q d q' d' (xs (i + 1)) (xs (i + 2)) (xs (i + 3)) (xs (i + 4)) w w' hW
  obtain ⟨cn, lt, ge, gu, op, le, fr, fw, bh, fd, cc, cs, sc, ct, -, rfl, rfl⟩ := hW
  have hW2 := hW1
  obtain ⟨cn1, lt1, ge1, gu1, op1, le1, fr1, fw1, bh1, fd1, cc1, cs1, sc1, ct1, -, rfl, rfl⟩ := hW2
  refine lv_aload_n hx hb dL_law_148 rfl (lv_at hl 1 rfl) ?_
  refine lv_aload_n hx hb dL_law_149 rfl (lv_at hl 0 rfl) ?_
  refine lv_iload_n hx hb dL_law_150 rfl (lv_at hl 3 rfl) ?_
  refine lv_iconst (v := nI 1) hx hb dL_law_151 (by decide +kernel) ?_
  refine tw_iadd hx hb dL_law_152 ?_
  refine tw_sld hx hb hX hbl hbA hS (by omega) (by omega) dL_law_153 ?_
  refine lv_aload_n hx hb dL_law_154 rfl (lv_at hl 0 rfl) ?_
  refine lv_iload_n hx hb dL_law_155 rfl (lv_at hl 3 rfl) ?_
  refine lv_iconst (v := nI 2) hx hb dL_law_156 (by decide +kernel) ?_
  refine tw_iadd hx hb dL_law_157 ?_
  refine tw_sld hx hb hX hbl hbA hS (by omega) (by omega) dL_law_158 ?_
  refine lv_aload_n hx hb dL_law_159 rfl (lv_at hl 0 rfl) ?_
  refine lv_iload_n hx hb dL_law_160 rfl (lv_at hl 3 rfl) ?_
  refine lv_iconst (v := nI 3) hx hb dL_law_161 (by decide +kernel) ?_
  refine tw_iadd hx hb dL_law_162 ?_
  refine tw_sld hx hb hX hbl hbA hS (by omega) (by omega) dL_law_163 ?_
  refine lv_aload_n hx hb dL_law_164 rfl (lv_at hl 0 rfl) ?_
  refine lv_iload_n hx hb dL_law_165 rfl (lv_at hl 3 rfl) ?_
  refine lv_iconst (v := nI 4) hx hb dL_law_166 (by decide +kernel) ?_
  refine tw_iadd hx hb dL_law_167 ?_
  refine tw_sld hx hb hX hbl hbA hS (by omega) (by omega) dL_law_168 ?_
  refine tw_calli (n := 4) (rest := []) (As := [.int (xs (i + 1)), .int (xs (i + 2)), .int (xs (i + 3)), .int (xs (i + 4))]) (wr := mw q' d' lt cn ge gu op le sc ct) CX S (lw_V q77 q78 q79 q20 q80) (by decide +kernel) ⟨Nat.le_of_ble_eq_true rfl, Nat.le_of_ble_eq_true rfl⟩ hK hP hD hS hA [0, 1, 2, 3, 4, 5, 6] [7, 8, 9, 10, 11] [0, 1, 2, 3, 4, 5] rfl rfl (by decide) (by decide) (by decide) rfl (ci := 0) rfl (q0 := 0) rfl rfl rfl hl.1 (Nat.le_of_ble_eq_true rfl) dL_law_169 hf (fun H locs hP hD hS => ?_)
  have hP : va_P D vwCl (mw q' d' lt cn ge gu op le sc ct ++ xw q d cn1 lt1 ge1 gu1 op1 le1 fr1 fw1 bh1 fd1 cc1 cs1) H := hP
  have hD : va_D A (mw q' d' lt cn ge gu op le sc ct ++ xw q d cn1 lt1 ge1 gu1 op1 le1 fr1 fw1 bh1 fd1 cc1 cs1) := hD
  refine lv_aload_n hx hb dL_law_172 rfl (lv_at hl 2 rfl) ?_
  refine lv_aload_n hx hb dL_law_173 rfl (lv_at hl 0 rfl) ?_
  refine lv_iload_n hx hb dL_law_174 rfl (lv_at hl 3 rfl) ?_
  refine lv_iconst (v := nI 1) hx hb dL_law_175 (by decide +kernel) ?_
  refine tw_iadd hx hb dL_law_176 ?_
  refine tw_sld hx hb hX hbl hbA hS (by omega) (by omega) dL_law_177 ?_
  refine lv_aload_n hx hb dL_law_178 rfl (lv_at hl 0 rfl) ?_
  refine lv_iload_n hx hb dL_law_179 rfl (lv_at hl 3 rfl) ?_
  refine lv_iconst (v := nI 2) hx hb dL_law_180 (by decide +kernel) ?_
  refine tw_iadd hx hb dL_law_181 ?_
  refine tw_sld hx hb hX hbl hbA hS (by omega) (by omega) dL_law_182 ?_
  refine lv_aload_n hx hb dL_law_183 rfl (lv_at hl 0 rfl) ?_
  refine lv_iload_n hx hb dL_law_184 rfl (lv_at hl 3 rfl) ?_
  refine lv_iconst (v := nI 3) hx hb dL_law_185 (by decide +kernel) ?_
  refine tw_iadd hx hb dL_law_186 ?_
  refine tw_sld hx hb hX hbl hbA hS (by omega) (by omega) dL_law_187 ?_
  refine lv_aload_n hx hb dL_law_188 rfl (lv_at hl 0 rfl) ?_
  refine lv_iload_n hx hb dL_law_189 rfl (lv_at hl 3 rfl) ?_
  refine lv_iconst (v := nI 4) hx hb dL_law_190 (by decide +kernel) ?_
  refine tw_iadd hx hb dL_law_191 ?_
  refine tw_sld hx hb hX hbl hbA hS (by omega) (by omega) dL_law_192 ?_
  refine tw_calli (n := 4) (rest := [.int r]) (As := [.int (xs (i + 1)), .int (xs (i + 2)), .int (xs (i + 3)), .int (xs (i + 4))]) (wr := xw q d cn1 lt1 ge1 gu1 op1 le1 fr1 fw1 bh1 fd1 cc1 cs1) CM S (lw_V q202 q203 q204 q21 q205) (by decide +kernel) ⟨Nat.le_of_ble_eq_true rfl, Nat.le_of_ble_eq_true rfl⟩ hK hP hD hS hA [0, 1, 2, 3, 4] [5, 6, 7, 8, 9, 10, 11] [6, 7, 8, 9] rfl rfl (by decide) (by decide) (by decide) rfl (ci := 1) rfl (q0 := 0) rfl rfl rfl hl.1 (Nat.le_of_ble_eq_true rfl) dL_law_193 hf (fun H locs hP hD hS => ?_)
  exact lv_icmp_eq (tgt := 335) hx hb dL_law_196 (by decide) (fun _ => kk _ _ _ _ hW1 hP hD hS) (fun h => absurd rfl h)
set_option maxHeartbeats 4000000 in
set_option maxRecDepth 100000 in
theorem lc_3 (hL : L ≤ 320) (C0 : lw_At p s m meth c b L xs) (hA : ∀ z : Nat, s.heap.size ≤ z → A z) (hbA : ¬ A b) (hi : i + 5 ≤ L) (hK : va_K D vwCl (xt d ++ mt d') s) (hf : cells ≤ room_1.cells ∧ slots ≤ room_1.slots) (hl : lv_has ls 4 (lc_L b q q' i)) (kk : lc_G p l e s m below meth c b A D q d q' d' cells slots Q ls 335) : lc_G p l e s m below meth c b A D q d q' d' cells slots Q ls 201 := by
  obtain ⟨hx, hb, hr, hml, hown, hts0, hX, hbl, hlocks, hgv⟩ := C0
  have hts : ∀ w ∈ lw_all, w.before #[Value.ref b] s = true := fun w h => hts0 w (lw_all_tbl h)
  have S : CallFix p m c cL_law 4 s #[Value.ref b] lw_all R_law := ⟨hx, hb, hml, hown, hts⟩
  intro w w' H locs hW hP hD hS
  obtain ⟨r, w1, w1', hW1, CX, CM⟩ := pr_best l D q d q' d' w w' hW
  obtain ⟨cn, lt, ge, gu, op, le, fr, fw, bh, fd, cc, cs, sc, ct, -, rfl, rfl⟩ := hW
  have hW2 := hW1
  obtain ⟨cn1, lt1, ge1, gu1, op1, le1, fr1, fw1, bh1, fd1, cc1, cs1, sc1, ct1, -, rfl, rfl⟩ := hW2
  refine lv_aload_n hx hb dL_law_201 rfl (lv_at hl 1 rfl) ?_
  refine tw_calli (n := 0) (rest := []) (As := []) (wr := mw q' d' lt cn ge gu op le sc ct) CX S (lw_V q81 q82 q83 q20 q84) (by decide +kernel) ⟨Nat.le_of_ble_eq_true rfl, Nat.le_of_ble_eq_true rfl⟩ hK hP hD hS hA [0, 1, 2, 3, 4, 5, 6] [7, 8, 9, 10, 11] [0, 1, 2, 3, 4, 5] rfl rfl (by decide) (by decide) (by decide) rfl (ci := 0) rfl (q0 := 0) rfl rfl rfl hl.1 (Nat.le_of_ble_eq_true rfl) dL_law_202 hf (fun H locs hP hD hS => ?_)
  have hP : va_P D vwCl (mw q' d' lt cn ge gu op le sc ct ++ xw q d cn1 lt1 ge1 gu1 op1 le1 fr1 fw1 bh1 fd1 cc1 cs1) H := hP
  have hD : va_D A (mw q' d' lt cn ge gu op le sc ct ++ xw q d cn1 lt1 ge1 gu1 op1 le1 fr1 fw1 bh1 fd1 cc1 cs1) := hD
  refine lv_aload_n hx hb dL_law_205 rfl (lv_at hl 2 rfl) ?_
  refine tw_calli (n := 0) (rest := [.int r]) (As := []) (wr := xw q d cn1 lt1 ge1 gu1 op1 le1 fr1 fw1 bh1 fd1 cc1 cs1) CM S (lw_V q206 q207 q208 q21 q209) (by decide +kernel) ⟨Nat.le_of_ble_eq_true rfl, Nat.le_of_ble_eq_true rfl⟩ hK hP hD hS hA [0, 1, 2, 3, 4] [5, 6, 7, 8, 9, 10, 11] [6, 7, 8, 9] rfl rfl (by decide) (by decide) (by decide) rfl (ci := 1) rfl (q0 := 0) rfl rfl rfl hl.1 (Nat.le_of_ble_eq_true rfl) dL_law_206 hf (fun H locs hP hD hS => ?_)
  exact lv_icmp_eq (tgt := 335) hx hb dL_law_209 (by decide) (fun _ => kk _ _ _ _ hW1 hP hD hS) (fun h => absurd rfl h)
set_option maxHeartbeats 4000000 in
set_option maxRecDepth 100000 in
theorem lc_4 (hL : L ≤ 320) (C0 : lw_At p s m meth c b L xs) (hA : ∀ z : Nat, s.heap.size ≤ z → A z) (hbA : ¬ A b) (hi : i + 5 ≤ L) (hK : va_K D vwCl (xt d ++ mt d') s) (hf : cells ≤ room_1.cells ∧ slots ≤ room_1.slots) (hl : lv_has ls 4 (lc_L b q q' i)) (kk : lc_G p l e s m below meth c b A D q d q' d' cells slots Q ls 335) : lc_G p l e s m below meth c b A D q d q' d' cells slots Q ls 214 := by
  obtain ⟨hx, hb, hr, hml, hown, hts0, hX, hbl, hlocks, hgv⟩ := C0
  have hts : ∀ w ∈ lw_all, w.before #[Value.ref b] s = true := fun w h => hts0 w (lw_all_tbl h)
  have S : CallFix p m c cL_law 4 s #[Value.ref b] lw_all R_law := ⟨hx, hb, hml, hown, hts⟩
  intro w w' H locs hW hP hD hS
  obtain ⟨r, w1, w1', hW1, CX, CM⟩ := pr_ways l D q d q' d' w w' hW
  obtain ⟨cn, lt, ge, gu, op, le, fr, fw, bh, fd, cc, cs, sc, ct, -, rfl, rfl⟩ := hW
  have hW2 := hW1
  obtain ⟨cn1, lt1, ge1, gu1, op1, le1, fr1, fw1, bh1, fd1, cc1, cs1, sc1, ct1, -, rfl, rfl⟩ := hW2
  refine lv_aload_n hx hb dL_law_214 rfl (lv_at hl 1 rfl) ?_
  refine tw_calli (n := 0) (rest := []) (As := []) (wr := mw q' d' lt cn ge gu op le sc ct) CX S (lw_V q118 q119 q120 q20 q121) (by decide +kernel) ⟨Nat.le_of_ble_eq_true rfl, Nat.le_of_ble_eq_true rfl⟩ hK hP hD hS hA [0, 1, 2, 3, 4, 5, 6] [7, 8, 9, 10, 11] [0, 1, 2, 3, 4, 5] rfl rfl (by decide) (by decide) (by decide) rfl (ci := 0) rfl (q0 := 0) rfl rfl rfl hl.1 (Nat.le_of_ble_eq_true rfl) dL_law_215 hf (fun H locs hP hD hS => ?_)
  have hP : va_P D vwCl (mw q' d' lt cn ge gu op le sc ct ++ xw q d cn1 lt1 ge1 gu1 op1 le1 fr1 fw1 bh1 fd1 cc1 cs1) H := hP
  have hD : va_D A (mw q' d' lt cn ge gu op le sc ct ++ xw q d cn1 lt1 ge1 gu1 op1 le1 fr1 fw1 bh1 fd1 cc1 cs1) := hD
  refine lv_aload_n hx hb dL_law_218 rfl (lv_at hl 2 rfl) ?_
  refine tw_calli (n := 0) (rest := [.int r]) (As := []) (wr := xw q d cn1 lt1 ge1 gu1 op1 le1 fr1 fw1 bh1 fd1 cc1 cs1) CM S (lw_V q228 q229 q230 q21 q231) (by decide +kernel) ⟨Nat.le_of_ble_eq_true rfl, Nat.le_of_ble_eq_true rfl⟩ hK hP hD hS hA [0, 1, 2, 3, 4] [5, 6, 7, 8, 9, 10, 11] [6, 7, 8, 9] rfl rfl (by decide) (by decide) (by decide) rfl (ci := 1) rfl (q0 := 0) rfl rfl rfl hl.1 (Nat.le_of_ble_eq_true rfl) dL_law_219 hf (fun H locs hP hD hS => ?_)
  exact lv_icmp_eq (tgt := 335) hx hb dL_law_222 (by decide) (fun _ => kk _ _ _ _ hW1 hP hD hS) (fun h => absurd rfl h)
set_option maxHeartbeats 4000000 in
set_option maxRecDepth 100000 in
theorem lc_5 (hL : L ≤ 320) (C0 : lw_At p s m meth c b L xs) (hA : ∀ z : Nat, s.heap.size ≤ z → A z) (hbA : ¬ A b) (hi : i + 5 ≤ L) (hK : va_K D vwCl (xt d ++ mt d') s) (hf : cells ≤ room_1.cells ∧ slots ≤ room_1.slots) (hl : lv_has ls 4 (lc_L b q q' i)) (kk : lc_G p l e s m below meth c b A D q d q' d' cells slots Q ls 335) : lc_G p l e s m below meth c b A D q d q' d' cells slots Q ls 227 := by
  obtain ⟨hx, hb, hr, hml, hown, hts0, hX, hbl, hlocks, hgv⟩ := C0
  have hts : ∀ w ∈ lw_all, w.before #[Value.ref b] s = true := fun w h => hts0 w (lw_all_tbl h)
  have S : CallFix p m c cL_law 4 s #[Value.ref b] lw_all R_law := ⟨hx, hb, hml, hown, hts⟩
  intro w w' H locs hW hP hD hS
  obtain ⟨r, w1, w1', hW1, CX, CM⟩ := pr_column l D q d q' d' (xs (i + 1)) w w' hW
  obtain ⟨cn, lt, ge, gu, op, le, fr, fw, bh, fd, cc, cs, sc, ct, -, rfl, rfl⟩ := hW
  have hW2 := hW1
  obtain ⟨cn1, lt1, ge1, gu1, op1, le1, fr1, fw1, bh1, fd1, cc1, cs1, sc1, ct1, -, rfl, rfl⟩ := hW2
  refine lv_aload_n hx hb dL_law_227 rfl (lv_at hl 1 rfl) ?_
  refine lv_aload_n hx hb dL_law_228 rfl (lv_at hl 0 rfl) ?_
  refine lv_iload_n hx hb dL_law_229 rfl (lv_at hl 3 rfl) ?_
  refine lv_iconst (v := nI 1) hx hb dL_law_230 (by decide +kernel) ?_
  refine tw_iadd hx hb dL_law_231 ?_
  refine tw_sld hx hb hX hbl hbA hS (by omega) (by omega) dL_law_232 ?_
  refine tw_calli (n := 1) (rest := []) (As := [.int (xs (i + 1))]) (wr := mw q' d' lt cn ge gu op le sc ct) CX S (lw_V q123 q124 q125 q20 q126) (by decide +kernel) ⟨Nat.le_of_ble_eq_true rfl, Nat.le_of_ble_eq_true rfl⟩ hK hP hD hS hA [0, 1, 2, 3, 4, 5, 6] [7, 8, 9, 10, 11] [0, 1, 2, 3, 4, 5] rfl rfl (by decide) (by decide) (by decide) rfl (ci := 0) rfl (q0 := 0) rfl rfl rfl hl.1 (Nat.le_of_ble_eq_true rfl) dL_law_233 hf (fun H locs hP hD hS => ?_)
  have hP : va_P D vwCl (mw q' d' lt cn ge gu op le sc ct ++ xw q d cn1 lt1 ge1 gu1 op1 le1 fr1 fw1 bh1 fd1 cc1 cs1) H := hP
  have hD : va_D A (mw q' d' lt cn ge gu op le sc ct ++ xw q d cn1 lt1 ge1 gu1 op1 le1 fr1 fw1 bh1 fd1 cc1 cs1) := hD
  refine lv_aload_n hx hb dL_law_236 rfl (lv_at hl 2 rfl) ?_
  refine lv_aload_n hx hb dL_law_237 rfl (lv_at hl 0 rfl) ?_
  refine lv_iload_n hx hb dL_law_238 rfl (lv_at hl 3 rfl) ?_
  refine lv_iconst (v := nI 1) hx hb dL_law_239 (by decide +kernel) ?_
  refine tw_iadd hx hb dL_law_240 ?_
  refine tw_sld hx hb hX hbl hbA hS (by omega) (by omega) dL_law_241 ?_
  refine tw_calli (n := 1) (rest := [.int r]) (As := [.int (xs (i + 1))]) (wr := xw q d cn1 lt1 ge1 gu1 op1 le1 fr1 fw1 bh1 fd1 cc1 cs1) CM S (lw_V q232 q233 q234 q21 q235) (by decide +kernel) ⟨Nat.le_of_ble_eq_true rfl, Nat.le_of_ble_eq_true rfl⟩ hK hP hD hS hA [0, 1, 2, 3, 4] [5, 6, 7, 8, 9, 10, 11] [6, 7, 8, 9] rfl rfl (by decide) (by decide) (by decide) rfl (ci := 1) rfl (q0 := 0) rfl rfl rfl hl.1 (Nat.le_of_ble_eq_true rfl) dL_law_242 hf (fun H locs hP hD hS => ?_)
  exact lv_icmp_eq (tgt := 335) hx hb dL_law_245 (by decide) (fun _ => kk _ _ _ _ hW1 hP hD hS) (fun h => absurd rfl h)
set_option maxHeartbeats 4000000 in
set_option maxRecDepth 100000 in
theorem lc_6 (hL : L ≤ 320) (C0 : lw_At p s m meth c b L xs) (hA : ∀ z : Nat, s.heap.size ≤ z → A z) (hbA : ¬ A b) (hi : i + 5 ≤ L) (hK : va_K D vwCl (xt d ++ mt d') s) (hf : cells ≤ room_1.cells ∧ slots ≤ room_1.slots) (hl : lv_has ls 4 (lc_L b q q' i)) (kk : lc_G p l e s m below meth c b A D q d q' d' cells slots Q ls 335) : lc_G p l e s m below meth c b A D q d q' d' cells slots Q ls 250 := by
  obtain ⟨hx, hb, hr, hml, hown, hts0, hX, hbl, hlocks, hgv⟩ := C0
  have hts : ∀ w ∈ lw_all, w.before #[Value.ref b] s = true := fun w h => hts0 w (lw_all_tbl h)
  have S : CallFix p m c cL_law 4 s #[Value.ref b] lw_all R_law := ⟨hx, hb, hml, hown, hts⟩
  intro w w' H locs hW hP hD hS
  obtain ⟨r, w1, w1', hW1, CX, CM⟩ := pr_columns l D q d q' d' w w' hW
  obtain ⟨cn, lt, ge, gu, op, le, fr, fw, bh, fd, cc, cs, sc, ct, -, rfl, rfl⟩ := hW
  have hW2 := hW1
  obtain ⟨cn1, lt1, ge1, gu1, op1, le1, fr1, fw1, bh1, fd1, cc1, cs1, sc1, ct1, -, rfl, rfl⟩ := hW2
  refine lv_aload_n hx hb dL_law_250 rfl (lv_at hl 1 rfl) ?_
  refine tw_calli (n := 0) (rest := []) (As := []) (wr := mw q' d' lt cn ge gu op le sc ct) CX S (lw_V q143 q144 q145 q20 q146) (by decide +kernel) ⟨Nat.le_of_ble_eq_true rfl, Nat.le_of_ble_eq_true rfl⟩ hK hP hD hS hA [0, 1, 2, 3, 4, 5, 6] [7, 8, 9, 10, 11] [0, 1, 2, 3, 4, 5] rfl rfl (by decide) (by decide) (by decide) rfl (ci := 0) rfl (q0 := 0) rfl rfl rfl hl.1 (Nat.le_of_ble_eq_true rfl) dL_law_251 hf (fun H locs hP hD hS => ?_)
  have hP : va_P D vwCl (mw q' d' lt cn ge gu op le sc ct ++ xw q d cn1 lt1 ge1 gu1 op1 le1 fr1 fw1 bh1 fd1 cc1 cs1) H := hP
  have hD : va_D A (mw q' d' lt cn ge gu op le sc ct ++ xw q d cn1 lt1 ge1 gu1 op1 le1 fr1 fw1 bh1 fd1 cc1 cs1) := hD
  refine lv_aload_n hx hb dL_law_254 rfl (lv_at hl 2 rfl) ?_
  refine tw_calli (n := 0) (rest := [.int r]) (As := []) (wr := xw q d cn1 lt1 ge1 gu1 op1 le1 fr1 fw1 bh1 fd1 cc1 cs1) CM S (lw_V q249 q250 q251 q21 q252) (by decide +kernel) ⟨Nat.le_of_ble_eq_true rfl, Nat.le_of_ble_eq_true rfl⟩ hK hP hD hS hA [0, 1, 2, 3, 4] [5, 6, 7, 8, 9, 10, 11] [6, 7, 8, 9] rfl rfl (by decide) (by decide) (by decide) rfl (ci := 1) rfl (q0 := 0) rfl rfl rfl hl.1 (Nat.le_of_ble_eq_true rfl) dL_law_255 hf (fun H locs hP hD hS => ?_)
  exact lv_icmp_eq (tgt := 335) hx hb dL_law_258 (by decide) (fun _ => kk _ _ _ _ hW1 hP hD hS) (fun h => absurd rfl h)
set_option maxHeartbeats 4000000 in
set_option maxRecDepth 100000 in
theorem lc_7 (hL : L ≤ 320) (C0 : lw_At p s m meth c b L xs) (hA : ∀ z : Nat, s.heap.size ≤ z → A z) (hbA : ¬ A b) (hi : i + 5 ≤ L) (hK : va_K D vwCl (xt d ++ mt d') s) (hf : cells ≤ room_1.cells ∧ slots ≤ room_1.slots) (hl : lv_has ls 4 (lc_L b q q' i)) (kk : lc_G p l e s m below meth c b A D q d q' d' cells slots Q ls 335) : lc_G p l e s m below meth c b A D q d q' d' cells slots Q ls 263 := by
  obtain ⟨hx, hb, hr, hml, hown, hts0, hX, hbl, hlocks, hgv⟩ := C0
  have hts : ∀ w ∈ lw_all, w.before #[Value.ref b] s = true := fun w h => hts0 w (lw_all_tbl h)
  have S : CallFix p m c cL_law 4 s #[Value.ref b] lw_all R_law := ⟨hx, hb, hml, hown, hts⟩
  intro w w' H locs hW hP hD hS
  obtain ⟨r, w1, w1', hW1, CX, CM⟩ := pr_local l D q d q' d' w w' hW
  obtain ⟨cn, lt, ge, gu, op, le, fr, fw, bh, fd, cc, cs, sc, ct, -, rfl, rfl⟩ := hW
  have hW2 := hW1
  obtain ⟨cn1, lt1, ge1, gu1, op1, le1, fr1, fw1, bh1, fd1, cc1, cs1, sc1, ct1, -, rfl, rfl⟩ := hW2
  refine lv_aload_n hx hb dL_law_263 rfl (lv_at hl 1 rfl) ?_
  refine tw_calli (n := 0) (rest := []) (As := []) (wr := mw q' d' lt cn ge gu op le sc ct) CX S (lw_V q147 q148 q149 q20 q150) (by decide +kernel) ⟨Nat.le_of_ble_eq_true rfl, Nat.le_of_ble_eq_true rfl⟩ hK hP hD hS hA [0, 1, 2, 3, 4, 5, 6] [7, 8, 9, 10, 11] [0, 1, 2, 3, 4, 5] rfl rfl (by decide) (by decide) (by decide) rfl (ci := 0) rfl (q0 := 0) rfl rfl rfl hl.1 (Nat.le_of_ble_eq_true rfl) dL_law_264 hf (fun H locs hP hD hS => ?_)
  have hP : va_P D vwCl (mw q' d' lt cn ge gu op le sc ct ++ xw q d cn1 lt1 ge1 gu1 op1 le1 fr1 fw1 bh1 fd1 cc1 cs1) H := hP
  have hD : va_D A (mw q' d' lt cn ge gu op le sc ct ++ xw q d cn1 lt1 ge1 gu1 op1 le1 fr1 fw1 bh1 fd1 cc1 cs1) := hD
  refine lv_aload_n hx hb dL_law_267 rfl (lv_at hl 2 rfl) ?_
  refine tw_calli (n := 0) (rest := [.int r]) (As := []) (wr := xw q d cn1 lt1 ge1 gu1 op1 le1 fr1 fw1 bh1 fd1 cc1 cs1) CM S (lw_V q253 q254 q255 q21 q256) (by decide +kernel) ⟨Nat.le_of_ble_eq_true rfl, Nat.le_of_ble_eq_true rfl⟩ hK hP hD hS hA [0, 1, 2, 3, 4] [5, 6, 7, 8, 9, 10, 11] [6, 7, 8, 9] rfl rfl (by decide) (by decide) (by decide) rfl (ci := 1) rfl (q0 := 0) rfl rfl rfl hl.1 (Nat.le_of_ble_eq_true rfl) dL_law_268 hf (fun H locs hP hD hS => ?_)
  exact lv_icmp_eq (tgt := 335) hx hb dL_law_271 (by decide) (fun _ => kk _ _ _ _ hW1 hP hD hS) (fun h => absurd rfl h)
set_option maxHeartbeats 4000000 in
set_option maxRecDepth 100000 in
theorem lc_8 (hL : L ≤ 320) (C0 : lw_At p s m meth c b L xs) (hA : ∀ z : Nat, s.heap.size ≤ z → A z) (hbA : ¬ A b) (hi : i + 5 ≤ L) (hK : va_K D vwCl (xt d ++ mt d') s) (hf : cells ≤ room_1.cells ∧ slots ≤ room_1.slots) (hl : lv_has ls 4 (lc_L b q q' i)) (kk : lc_G p l e s m below meth c b A D q d q' d' cells slots Q ls 335) : lc_G p l e s m below meth c b A D q d q' d' cells slots Q ls 276 := by
  obtain ⟨hx, hb, hr, hml, hown, hts0, hX, hbl, hlocks, hgv⟩ := C0
  have hts : ∀ w ∈ lw_all, w.before #[Value.ref b] s = true := fun w h => hts0 w (lw_all_tbl h)
  have S : CallFix p m c cL_law 4 s #[Value.ref b] lw_all R_law := ⟨hx, hb, hml, hown, hts⟩
  intro w w' H locs hW hP hD hS
  obtain ⟨r, w1, w1', hW1, CX, CM⟩ := pr_fitted l D q d q' d' w w' hW
  obtain ⟨cn, lt, ge, gu, op, le, fr, fw, bh, fd, cc, cs, sc, ct, -, rfl, rfl⟩ := hW
  have hW2 := hW1
  obtain ⟨cn1, lt1, ge1, gu1, op1, le1, fr1, fw1, bh1, fd1, cc1, cs1, sc1, ct1, -, rfl, rfl⟩ := hW2
  refine lv_aload_n hx hb dL_law_276 rfl (lv_at hl 1 rfl) ?_
  refine tw_calli (n := 0) (rest := []) (As := []) (wr := mw q' d' lt cn ge gu op le sc ct) CX S (lw_V q151 q152 q153 q20 q154) (by decide +kernel) ⟨Nat.le_of_ble_eq_true rfl, Nat.le_of_ble_eq_true rfl⟩ hK hP hD hS hA [0, 1, 2, 3, 4, 5, 6] [7, 8, 9, 10, 11] [0, 1, 2, 3, 4, 5] rfl rfl (by decide) (by decide) (by decide) rfl (ci := 0) rfl (q0 := 0) rfl rfl rfl hl.1 (Nat.le_of_ble_eq_true rfl) dL_law_277 hf (fun H locs hP hD hS => ?_)
  have hP : va_P D vwCl (mw q' d' lt cn ge gu op le sc ct ++ xw q d cn1 lt1 ge1 gu1 op1 le1 fr1 fw1 bh1 fd1 cc1 cs1) H := hP
  have hD : va_D A (mw q' d' lt cn ge gu op le sc ct ++ xw q d cn1 lt1 ge1 gu1 op1 le1 fr1 fw1 bh1 fd1 cc1 cs1) := hD
  refine lv_aload_n hx hb dL_law_280 rfl (lv_at hl 2 rfl) ?_
  refine tw_calli (n := 0) (rest := [.int r]) (As := []) (wr := xw q d cn1 lt1 ge1 gu1 op1 le1 fr1 fw1 bh1 fd1 cc1 cs1) CM S (lw_V q257 q258 q259 q21 q260) (by decide +kernel) ⟨Nat.le_of_ble_eq_true rfl, Nat.le_of_ble_eq_true rfl⟩ hK hP hD hS hA [0, 1, 2, 3, 4] [5, 6, 7, 8, 9, 10, 11] [6, 7, 8, 9] rfl rfl (by decide) (by decide) (by decide) rfl (ci := 1) rfl (q0 := 0) rfl rfl rfl hl.1 (Nat.le_of_ble_eq_true rfl) dL_law_281 hf (fun H locs hP hD hS => ?_)
  exact lv_icmp_eq (tgt := 335) hx hb dL_law_284 (by decide) (fun _ => kk _ _ _ _ hW1 hP hD hS) (fun h => absurd rfl h)
set_option maxHeartbeats 4000000 in
set_option maxRecDepth 100000 in
theorem lc_9 (hL : L ≤ 320) (C0 : lw_At p s m meth c b L xs) (hA : ∀ z : Nat, s.heap.size ≤ z → A z) (hbA : ¬ A b) (hi : i + 5 ≤ L) (hK : va_K D vwCl (xt d ++ mt d') s) (hf : cells ≤ room_1.cells ∧ slots ≤ room_1.slots) (hl : lv_has ls 4 (lc_L b q q' i)) (kk : lc_G p l e s m below meth c b A D q d q' d' cells slots Q ls 335) : lc_G p l e s m below meth c b A D q d q' d' cells slots Q ls 289 := by
  obtain ⟨hx, hb, hr, hml, hown, hts0, hX, hbl, hlocks, hgv⟩ := C0
  have hts : ∀ w ∈ lw_all, w.before #[Value.ref b] s = true := fun w h => hts0 w (lw_all_tbl h)
  have S : CallFix p m c cL_law 4 s #[Value.ref b] lw_all R_law := ⟨hx, hb, hml, hown, hts⟩
  intro w w' H locs hW hP hD hS
  obtain ⟨r, w1, w1', hW1, CX, CM⟩ := pr_overlap l D q d q' d' w w' hW
  obtain ⟨cn, lt, ge, gu, op, le, fr, fw, bh, fd, cc, cs, sc, ct, -, rfl, rfl⟩ := hW
  have hW2 := hW1
  obtain ⟨cn1, lt1, ge1, gu1, op1, le1, fr1, fw1, bh1, fd1, cc1, cs1, sc1, ct1, -, rfl, rfl⟩ := hW2
  refine lv_aload_n hx hb dL_law_289 rfl (lv_at hl 1 rfl) ?_
  refine tw_calli (n := 0) (rest := []) (As := []) (wr := mw q' d' lt cn ge gu op le sc ct) CX S (lw_V q155 q156 q157 q20 q158) (by decide +kernel) ⟨Nat.le_of_ble_eq_true rfl, Nat.le_of_ble_eq_true rfl⟩ hK hP hD hS hA [0, 1, 2, 3, 4, 5, 6] [7, 8, 9, 10, 11] [0, 1, 2, 3, 4, 5] rfl rfl (by decide) (by decide) (by decide) rfl (ci := 0) rfl (q0 := 0) rfl rfl rfl hl.1 (Nat.le_of_ble_eq_true rfl) dL_law_290 hf (fun H locs hP hD hS => ?_)
  have hP : va_P D vwCl (mw q' d' lt cn ge gu op le sc ct ++ xw q d cn1 lt1 ge1 gu1 op1 le1 fr1 fw1 bh1 fd1 cc1 cs1) H := hP
  have hD : va_D A (mw q' d' lt cn ge gu op le sc ct ++ xw q d cn1 lt1 ge1 gu1 op1 le1 fr1 fw1 bh1 fd1 cc1 cs1) := hD
  refine lv_aload_n hx hb dL_law_293 rfl (lv_at hl 2 rfl) ?_
  refine tw_calli (n := 0) (rest := [.int r]) (As := []) (wr := xw q d cn1 lt1 ge1 gu1 op1 le1 fr1 fw1 bh1 fd1 cc1 cs1) CM S (lw_V q261 q262 q263 q21 q264) (by decide +kernel) ⟨Nat.le_of_ble_eq_true rfl, Nat.le_of_ble_eq_true rfl⟩ hK hP hD hS hA [0, 1, 2, 3, 4] [5, 6, 7, 8, 9, 10, 11] [6, 7, 8, 9] rfl rfl (by decide) (by decide) (by decide) rfl (ci := 1) rfl (q0 := 0) rfl rfl rfl hl.1 (Nat.le_of_ble_eq_true rfl) dL_law_294 hf (fun H locs hP hD hS => ?_)
  exact lv_icmp_eq (tgt := 335) hx hb dL_law_297 (by decide) (fun _ => kk _ _ _ _ hW1 hP hD hS) (fun h => absurd rfl h)
set_option maxHeartbeats 4000000 in
set_option maxRecDepth 100000 in
theorem lc_10 (hL : L ≤ 320) (C0 : lw_At p s m meth c b L xs) (hA : ∀ z : Nat, s.heap.size ≤ z → A z) (hbA : ¬ A b) (hi : i + 5 ≤ L) (hK : va_K D vwCl (xt d ++ mt d') s) (hf : cells ≤ room_1.cells ∧ slots ≤ room_1.slots) (hl : lv_has ls 4 (lc_L b q q' i)) (kk : lc_G p l e s m below meth c b A D q d q' d' cells slots Q ls 335) : lc_G p l e s m below meth c b A D q d q' d' cells slots Q ls 302 := by
  obtain ⟨hx, hb, hr, hml, hown, hts0, hX, hbl, hlocks, hgv⟩ := C0
  have hts : ∀ w ∈ lw_all, w.before #[Value.ref b] s = true := fun w h => hts0 w (lw_all_tbl h)
  have S : CallFix p m c cL_law 4 s #[Value.ref b] lw_all R_law := ⟨hx, hb, hml, hown, hts⟩
  intro w w' H locs hW hP hD hS
  obtain ⟨r, w1, w1', hW1, CX, CM⟩ := pr_paired l D q d q' d' (xs (i + 1)) (xs (i + 2)) w w' hW
  obtain ⟨cn, lt, ge, gu, op, le, fr, fw, bh, fd, cc, cs, sc, ct, -, rfl, rfl⟩ := hW
  have hW2 := hW1
  obtain ⟨cn1, lt1, ge1, gu1, op1, le1, fr1, fw1, bh1, fd1, cc1, cs1, sc1, ct1, -, rfl, rfl⟩ := hW2
  refine lv_aload_n hx hb dL_law_302 rfl (lv_at hl 1 rfl) ?_
  refine lv_aload_n hx hb dL_law_303 rfl (lv_at hl 0 rfl) ?_
  refine lv_iload_n hx hb dL_law_304 rfl (lv_at hl 3 rfl) ?_
  refine lv_iconst (v := nI 1) hx hb dL_law_305 (by decide +kernel) ?_
  refine tw_iadd hx hb dL_law_306 ?_
  refine tw_sld hx hb hX hbl hbA hS (by omega) (by omega) dL_law_307 ?_
  refine lv_aload_n hx hb dL_law_308 rfl (lv_at hl 0 rfl) ?_
  refine lv_iload_n hx hb dL_law_309 rfl (lv_at hl 3 rfl) ?_
  refine lv_iconst (v := nI 2) hx hb dL_law_310 (by decide +kernel) ?_
  refine tw_iadd hx hb dL_law_311 ?_
  refine tw_sld hx hb hX hbl hbA hS (by omega) (by omega) dL_law_312 ?_
  refine tw_calli (n := 2) (rest := []) (As := [.int (xs (i + 1)), .int (xs (i + 2))]) (wr := mw q' d' lt cn ge gu op le sc ct) CX S (lw_V q159 q160 q161 q20 q162) (by decide +kernel) ⟨Nat.le_of_ble_eq_true rfl, Nat.le_of_ble_eq_true rfl⟩ hK hP hD hS hA [0, 1, 2, 3, 4, 5, 6] [7, 8, 9, 10, 11] [0, 1, 2, 3, 4, 5] rfl rfl (by decide) (by decide) (by decide) rfl (ci := 0) rfl (q0 := 0) rfl rfl rfl hl.1 (Nat.le_of_ble_eq_true rfl) dL_law_313 hf (fun H locs hP hD hS => ?_)
  have hP : va_P D vwCl (mw q' d' lt cn ge gu op le sc ct ++ xw q d cn1 lt1 ge1 gu1 op1 le1 fr1 fw1 bh1 fd1 cc1 cs1) H := hP
  have hD : va_D A (mw q' d' lt cn ge gu op le sc ct ++ xw q d cn1 lt1 ge1 gu1 op1 le1 fr1 fw1 bh1 fd1 cc1 cs1) := hD
  refine lv_aload_n hx hb dL_law_316 rfl (lv_at hl 2 rfl) ?_
  refine lv_aload_n hx hb dL_law_317 rfl (lv_at hl 0 rfl) ?_
  refine lv_iload_n hx hb dL_law_318 rfl (lv_at hl 3 rfl) ?_
  refine lv_iconst (v := nI 1) hx hb dL_law_319 (by decide +kernel) ?_
  refine tw_iadd hx hb dL_law_320 ?_
  refine tw_sld hx hb hX hbl hbA hS (by omega) (by omega) dL_law_321 ?_
  refine lv_aload_n hx hb dL_law_322 rfl (lv_at hl 0 rfl) ?_
  refine lv_iload_n hx hb dL_law_323 rfl (lv_at hl 3 rfl) ?_
  refine lv_iconst (v := nI 2) hx hb dL_law_324 (by decide +kernel) ?_
  refine tw_iadd hx hb dL_law_325 ?_
  refine tw_sld hx hb hX hbl hbA hS (by omega) (by omega) dL_law_326 ?_
  refine tw_calli (n := 2) (rest := [.int r]) (As := [.int (xs (i + 1)), .int (xs (i + 2))]) (wr := xw q d cn1 lt1 ge1 gu1 op1 le1 fr1 fw1 bh1 fd1 cc1 cs1) CM S (lw_V q265 q266 q267 q21 q268) (by decide +kernel) ⟨Nat.le_of_ble_eq_true rfl, Nat.le_of_ble_eq_true rfl⟩ hK hP hD hS hA [0, 1, 2, 3, 4] [5, 6, 7, 8, 9, 10, 11] [6, 7, 8, 9] rfl rfl (by decide) (by decide) (by decide) rfl (ci := 1) rfl (q0 := 0) rfl rfl rfl hl.1 (Nat.le_of_ble_eq_true rfl) dL_law_327 hf (fun H locs hP hD hS => ?_)
  exact lv_icmp_eq (tgt := 335) hx hb dL_law_330 (by decide) (fun _ => kk _ _ _ _ hW1 hP hD hS) (fun h => absurd rfl h)
end CASES
end
section
/-! THE LAW'S LOOP -/
theorem lp_head {i L : Nat} (hi : i ≤ 1000) (hL : L ≤ 320) : nI L - nI 5 < nI i ↔ L < i + 5 := by
  rw [al_lt, pk_sub_toInt (by omega) (by decide), nI_toInt (by omega)]
  omega
section LOOP
variable {p : Program} {l : Launch} {e : Env} {s : State} {m : MethodId} {below : List Frame} {meth : Method} {c : Code} {b L : Nat} {xs : Nat → Int32} {A : Nat → Prop} {D : va_G} {q : Nat → Nat} {d : Nat → ClassId} {q' : Nat → Nat} {d' : Nat → ClassId} {cells slots : Nat}
set_option maxHeartbeats 4000000 in
set_option maxRecDepth 100000 in
theorem lp_loop (hL : L ≤ 320) (C0 : lw_At p s m meth c b L xs) (hA : ∀ z : Nat, s.heap.size ≤ z → A z) (hA' : ∀ z : Nat, A z → s.heap.size ≤ z) (hbA : ¬ A b) (hK : va_K D vwCl (xt d ++ mt d') s) (hf : cells ≤ room_1.cells ∧ slots ≤ room_1.slots) :
    ∀ (n i : Nat), i ≤ L → L + 1 ≤ i + n → ∀ ls : Array Slot, lv_has ls 4 (lc_L b q q' i) → lc_G p l e s m below meth c b A D q d q' d' cells slots (lw_Z below #[Value.ref b] s) ls 18 := by
  intro n
  induction n with
  | zero =>
    intro i h1 h2
    exact absurd h2 (by omega)
  | succ n ih =>
    intro i hi hin ls hl
    obtain ⟨hx, hb, hr, hml, hown, hts0, hX, hbl, hlocks, hgv⟩ := id C0
    intro w w' H locs hW hP hD hS
    refine lv_iload_n hx hb dL_law_18 rfl (lv_at hl 3 rfl) ?_
    refine lv_aload_n hx hb dL_law_19 rfl (lv_at hl 0 rfl) ?_
    refine va_slen hx hb hX hbl hbA hS dL_law_20 ?_
    refine lv_iconst (v := nI 5) hx hb dL_law_21 (by decide +kernel) ?_
    refine lv_isub hx hb dL_law_22 ?_
    refine lv_icmp_gt (tgt := 341) hx hb dL_law_23 (by decide) (fun hc => ?_) (fun hc => ?_)
    · refine lv_iconst (v := 1) hx hb dL_law_341 (by decide) ?_
      refine va_forget (fun z hz => hA' _ (hS.2.2 z hz)) ?_
      refine W.widen (k := 600000) (n := 7290000) hf.1 hf.2 ?_
      exact lw_ret hx hb hr hlocks dL_law_342
    · have hi5 : i + 5 ≤ L := Nat.not_lt.mp (fun z => hc ((lp_head (by omega) hL).mpr z))
      have next : lc_G p l e s m below meth c b A D q d q' d' cells slots (lw_Z below #[Value.ref b] s) ls 335 := by
        intro w w' H locs hW hP hD hS
        refine lv_iinc (v := nI (i + 5)) (lv' := [(3, .int (nI (i + 5))), (0, .ref b), (1, .ref (q 0)), (2, .ref (q' 0))]) hx hb dL_law_335 hl (k := 3) rfl (by rw [show Int32.ofInt 5 = nI 5 from by decide +kernel]; exact nI_add i 5) (by decide) rfl (fun ls hl => ?_)
        refine lv_goto (tgt := 18) hx hb dL_law_338 (by decide) ?_
        exact ih (i + 5) hi5 (by omega) ls (lv_sub hl [1, 2, 3, 0] rfl) w w' H locs hW hP hD hS
      refine lv_aload_n hx hb dL_law_26 rfl (lv_at hl 0 rfl) ?_
      refine lv_iload_n hx hb dL_law_27 rfl (lv_at hl 3 rfl) ?_
      refine tw_sld hx hb hX hbl hbA hS (by omega) (by omega) dL_law_28 ?_
      refine lv_bipush (v := nI 15) hx hb dL_law_29 (by decide +kernel) ?_
      refine lv_iand hx hb dL_law_31 ?_
      obtain ⟨k, hk, ek⟩ := pk_andE (xs i) (m := nI 15) 4 (by decide +kernel)
      refine tw_top ek ?_
      rcases (show k = 0 ∨ k = 1 ∨ k = 2 ∨ k = 3 ∨ k = 4 ∨ k = 5 ∨ k = 6 ∨ k = 7 ∨ k = 8 ∨ k = 9 ∨ k = 10 ∨ 11 ≤ k by omega) with rfl | rfl | rfl | rfl | rfl | rfl | rfl | rfl | rfl | rfl | rfl | h11
      · exact lv_tableIn (off := 60) (tgt := 92) hx hb dL_law_32 (by decide +kernel) (by decide +kernel) (by decide +kernel) (by decide) (lc_0 hL C0 hA hbA hi5 hK hf hl next w w' H locs hW hP hD hS)
      · exact lv_tableIn (off := 93) (tgt := 125) hx hb dL_law_32 (by decide +kernel) (by decide +kernel) (by decide +kernel) (by decide) (lc_1 hL C0 hA hbA hi5 hK hf hl next w w' H locs hW hP hD hS)
      · exact lv_tableIn (off := 116) (tgt := 148) hx hb dL_law_32 (by decide +kernel) (by decide +kernel) (by decide +kernel) (by decide) (lc_2 hL C0 hA hbA hi5 hK hf hl next w w' H locs hW hP hD hS)
      · exact lv_tableIn (off := 169) (tgt := 201) hx hb dL_law_32 (by decide +kernel) (by decide +kernel) (by decide +kernel) (by decide) (lc_3 hL C0 hA hbA hi5 hK hf hl next w w' H locs hW hP hD hS)
      · exact lv_tableIn (off := 182) (tgt := 214) hx hb dL_law_32 (by decide +kernel) (by decide +kernel) (by decide +kernel) (by decide) (lc_4 hL C0 hA hbA hi5 hK hf hl next w w' H locs hW hP hD hS)
      · exact lv_tableIn (off := 195) (tgt := 227) hx hb dL_law_32 (by decide +kernel) (by decide +kernel) (by decide +kernel) (by decide) (lc_5 hL C0 hA hbA hi5 hK hf hl next w w' H locs hW hP hD hS)
      · exact lv_tableIn (off := 218) (tgt := 250) hx hb dL_law_32 (by decide +kernel) (by decide +kernel) (by decide +kernel) (by decide) (lc_6 hL C0 hA hbA hi5 hK hf hl next w w' H locs hW hP hD hS)
      · exact lv_tableIn (off := 231) (tgt := 263) hx hb dL_law_32 (by decide +kernel) (by decide +kernel) (by decide +kernel) (by decide) (lc_7 hL C0 hA hbA hi5 hK hf hl next w w' H locs hW hP hD hS)
      · exact lv_tableIn (off := 244) (tgt := 276) hx hb dL_law_32 (by decide +kernel) (by decide +kernel) (by decide +kernel) (by decide) (lc_8 hL C0 hA hbA hi5 hK hf hl next w w' H locs hW hP hD hS)
      · exact lv_tableIn (off := 257) (tgt := 289) hx hb dL_law_32 (by decide +kernel) (by decide +kernel) (by decide +kernel) (by decide) (lc_9 hL C0 hA hbA hi5 hK hf hl next w w' H locs hW hP hD hS)
      · exact lv_tableIn (off := 270) (tgt := 302) hx hb dL_law_32 (by decide +kernel) (by decide +kernel) (by decide +kernel) (by decide) (lc_10 hL C0 hA hbA hi5 hK hf hl next w w' H locs hW hP hD hS)
      · exact lv_tableOut (tgt := 335) hx hb dL_law_32 (Or.inr (by rw [nI_toInt (by omega)]; omega)) (by decide) (next w w' H locs hW hP hD hS)
end LOOP
end
section
/-! THE LAW, from its entry -/
theorem ws_ok : al_ok (nI 2) (-1) (nI 2) (nI 1) := ⟨⟨by decide +kernel, by decide +kernel⟩, ⟨by decide +kernel, by decide +kernel⟩, ⟨by decide +kernel, by decide +kernel⟩, ⟨by decide +kernel, by decide +kernel⟩⟩
theorem ws_f0 : ∀ j, j < 12 → defaultValue (tyX0 j) = vp_V fX0 j := by
  intro j hj
  rcases (show j = 0 ∨ j = 1 ∨ j = 2 ∨ j = 3 ∨ j = 4 ∨ j = 5 ∨ j = 6 ∨ j = 7 ∨ j = 8 ∨ j = 9 ∨ j = 10 ∨ j = 11 by omega) with rfl | rfl | rfl | rfl | rfl | rfl | rfl | rfl | rfl | rfl | rfl | rfl <;> rfl
theorem ws_f1 : ∀ j, j < 8 → defaultValue (tyX1 j) = vp_V fX1 j := by
  intro j hj
  rcases (show j = 0 ∨ j = 1 ∨ j = 2 ∨ j = 3 ∨ j = 4 ∨ j = 5 ∨ j = 6 ∨ j = 7 by omega) with rfl | rfl | rfl | rfl | rfl | rfl | rfl | rfl <;> rfl
/-- the class's world, just made -/
abbrev ws_x (q : Nat → Nat) (d : Nat → ClassId) : va_W := xw q d (fun _ => 0) (fun _ => 0) (nI 2) (-1) (nI 2) (nI 1) (fun _ => 0) (fun _ => 0) (fun _ => 0) 0 0 (fun _ => 0)
/-- the reference's world, just made -/
abbrev ws_m (q : Nat → Nat) (d : Nat → ClassId) : va_W := mw q d (fun _ => 0) (fun _ => 0) (nI 2) (-1) (nI 2) (nI 1) (fun _ => 0) (fun _ => 0)
set_option maxHeartbeats 4000000 in
set_option maxRecDepth 100000 in
theorem ws_start {p : Program} {e : Env} {s : State} {m : MethodId} {below : List Frame} {meth : Method} {c : Code} (l : Launch) {b L : Nat} {xs : Nat → Int32} {A : Nat → Prop} (hA : ∀ z : Nat, s.heap.size ≤ z → A z) (hA' : ∀ z : Nat, A z → s.heap.size ≤ z) (hL : L ≤ 320) (C0 : lw_At p s m meth c b L xs) : W p l e room_1 s m #[Value.ref b] below meth c s.heap [] 0 0 (lw_Z below #[Value.ref b] s) (entryFrame m ([Value.ref b] : List Value).toArray 4) := by
  obtain ⟨hx, hb, hr, hml, hown, hts0, hX, hbl, hlocks, hgv⟩ := id C0
  have hbA : ¬ A b := fun z => absurd (hA' b z) (Nat.not_le.mpr hbl)
  have hts : ∀ w ∈ lw_all, w.before #[Value.ref b] s = true := fun w h => hts0 w (lw_all_tbl h)
  have S : CallFix p m c cL_law 4 s #[Value.ref b] lw_all R_law := ⟨hx, hb, hml, hown, hts⟩
  obtain ⟨c0, iS0, hKn0⟩ := u_known (C := RX0) (T := TX0) (N := 12) (n := 12) hts in_X0 (hts _ q23)
  obtain ⟨c1, iS1, hKn1⟩ := u_known (C := RX1) (T := TX1) (N := 8) (n := 8) hts in_X1 (hts _ q164)
  obtain ⟨D, hKc⟩ : ∃ D : va_G, ∀ (k : Nat) (z : vw_C), vwCl[k]? = some z → u_Kn s z.1 z.2.1 z.2.2 (D.1 k) (D.2 k) := by
    refine ⟨(fun k => if k = 0 then c0 else c1, fun k => if k = 0 then iS0 else iS1), ?_⟩
    intro k z hz
    match k, hz with
    | 0, hz => cases hz; exact hKn0
    | 1, hz => cases hz; exact hKn1
    | k + 2, hz => simp [vwCl] at hz
  have hS : va_S A s.heap s.heap [] := va_S.rf
  have hK : va_K D vwCl [] s := ⟨hKc, fun k z h => by simp at h⟩
  have hP : va_P D vwCl [] s.heap := fun k z h => by simp at h
  have hD : va_D A [] := ⟨fun i j p q h => by simp at h, fun k q h => by simp at h⟩
  have hl := lv_entry ([.ref b]) (n := 4) (Nat.le_of_ble_eq_true rfl)
  rw [lg_entry_eq]
  generalize (lg_sl ([.ref b]) ++ List.replicate (4 - (lg_sl ([.ref b])).length) Slot.unset).toArray = ls at hl ⊢
  have hl : lv_has ls 4 [(0, .ref b)] := hl
  refine va_new (ci := 0) (fs := fX0) (C := RX0) (T := TX0) (N := 12) hx hb hts in_X0 tyX0 tyX0_ok hown (hts _ q22) (hts _ q23) (hts _ q20) hK hP hD hS hA rfl ws_f0 (Nat.le_of_ble_eq_true rfl) (Nat.le_of_ble_eq_true rfl) dL_law_0 (fun z0 H hP hD hS => ?_)
  have hP : va_P D vwCl [(z0, .inr (0, fX0))] H := hP
  have hD : va_D A [(z0, .inr (0, fX0))] := hD
  refine W.widen (k := 1) (n := 12) (Nat.le_of_ble_eq_true rfl) (Nat.le_of_ble_eq_true rfl) ?_
  refine lv_dup hx hb dL_law_3 rfl ?_
  have hFc := va_free (wc := [(z0, .inr (0, fX0))]) hD hS hA [0] rfl
  refine va_callv (va_runI (As := []) (rest := [.ref z0]) S (kX0_init l D z0 H.size) (cwI 0 hts (lw_meth q26) rfl rfl rfl (hts _ q20) (hts _ q24) (hts _ q25) rfl (by decide +kernel) ⟨Nat.le_of_ble_eq_true rfl, Nat.le_of_ble_eq_true rfl⟩) ⟨fun a U g mk q => by obtain ⟨q0, q1, qP, qK, qD⟩ := q; exact ⟨q0, q1, qP, va_K.moved (u := U) (U := U.calling g mk a) (Vm.Alike.refl U.vm) qK, qD⟩, fun U hU hW => ⟨rfl, by rw [hU], by rw [hU]; exact hP, va_K.moved hW.alike hK, hD.weaken (fun _ _ _ _ => trivial)⟩⟩ rfl rfl hl.1 rfl (lv_room (Nat.le_of_ble_eq_true rfl)) dL_law_4 ⟨Nat.le_of_ble_eq_true rfl, Nat.le_of_ble_eq_true rfl⟩) hS (fun q _ h => hFc q h) hFc (fun u t H1 locs ht hvm hw hB hz1 hk1 hS => ?_)
  obtain ⟨q, d⟩ := u
  have hw : q 0 = z0 := hw
  subst hw
  obtain ⟨hP1, hK1, hD1⟩ := hB
  rw [ht] at hP1
  have hK1 := va_K.moved hvm.symm hK1
  obtain ⟨hP, hD⟩ := va_join (wr := []) (w1 := ws_x q d) hP hD [0] [] rfl rfl (by decide) (by decide) hk1 hFc hP1 hD1
  have hK := (hK.sub (tys' := []) [] rfl).app hK1
  generalize H1 = H at hP hS ⊢
  have hP : va_P D vwCl (ws_x q d) H := hP
  have hD : va_D A (ws_x q d) := hD
  have hK : va_K D vwCl (xt d) s := hK
  refine W.widen (k := 7) (n := 1143) (Nat.le_of_ble_eq_true rfl) (Nat.le_of_ble_eq_true rfl) ?_
  refine lv_astore_n (lv' := [(1, .ref (q 0)), (0, .ref b)]) hx hb dL_law_7 rfl hl (by decide) rfl (fun ls hl => ?_)
  refine va_new (ci := 1) (fs := fX1) (C := RX1) (T := TX1) (N := 8) hx hb hts in_X1 tyX1 tyX1_ok hown (hts _ q163) (hts _ q164) (hts _ q21) hK hP hD hS hA rfl ws_f1 (Nat.le_of_ble_eq_true rfl) (Nat.le_of_ble_eq_true rfl) dL_law_8 (fun z1 H hP hD hS => ?_)
  have hP : va_P D vwCl (ws_x q d ++ [(z1, .inr (1, fX1))]) H := hP
  have hD : va_D A (ws_x q d ++ [(z1, .inr (1, fX1))]) := hD
  refine W.widen (k := 8) (n := 1151) (Nat.le_of_ble_eq_true rfl) (Nat.le_of_ble_eq_true rfl) ?_
  refine lv_dup hx hb dL_law_11 rfl ?_
  have hPc := hP.sub (ws' := [(z1, .inr (1, fX1))]) [7] rfl
  have hDc := hD.sub (ws' := [(z1, .inr (1, fX1))]) [7] (by decide) rfl
  have hKc := hK.sub (tys' := []) [] rfl
  have hFc := va_free (wc := [(z1, .inr (1, fX1))]) hD hS hA [7] rfl
  refine va_callv (va_runI (As := []) (rest := [.ref z1]) S (kX1_init l D z1 H.size) (cwI 0 hts (lw_meth q167) rfl rfl rfl (hts _ q21) (hts _ q165) (hts _ q166) rfl (by decide +kernel) ⟨Nat.le_of_ble_eq_true rfl, Nat.le_of_ble_eq_true rfl⟩) ⟨fun a U g mk q => by obtain ⟨q0, q1, qP, qK, qD⟩ := q; exact ⟨q0, q1, qP, va_K.moved (u := U) (U := U.calling g mk a) (Vm.Alike.refl U.vm) qK, qD⟩, fun U hU hW => ⟨rfl, by rw [hU], by rw [hU]; exact hPc, va_K.moved hW.alike hKc, hDc.weaken (fun _ _ _ _ => trivial)⟩⟩ rfl rfl hl.1 rfl (lv_room (Nat.le_of_ble_eq_true rfl)) dL_law_12 ⟨Nat.le_of_ble_eq_true rfl, Nat.le_of_ble_eq_true rfl⟩) hS (fun q _ h => hFc q h) hFc (fun u t H1 locs ht hvm hw hB hz1 hk1 hS => ?_)
  obtain ⟨q', d'⟩ := u
  have hw : q' 0 = z1 := hw
  subst hw
  obtain ⟨hP1, hK1, hD1⟩ := hB
  rw [ht] at hP1
  have hK1 := va_K.moved hvm.symm hK1
  obtain ⟨hP, hD⟩ := va_join (wr := ws_x q d) (w1 := ws_m q' d') hP hD [7] [0, 1, 2, 3, 4, 5, 6] rfl rfl (by decide) (by decide) hk1 hFc hP1 hD1
  have hK := hK.app hK1
  generalize H1 = H at hP hS ⊢
  have hP : va_P D vwCl (ws_x q d ++ ws_m q' d') H := hP
  have hD : va_D A (ws_x q d ++ ws_m q' d') := hD
  have hK : va_K D vwCl (xt d ++ mt d') s := hK
  refine W.widen (k := 20) (n := 2000) (Nat.le_of_ble_eq_true rfl) (Nat.le_of_ble_eq_true rfl) ?_
  refine lv_astore_n (lv' := [(2, .ref (q' 0)), (1, .ref (q 0)), (0, .ref b)]) hx hb dL_law_15 rfl hl (by decide) rfl (fun ls hl => ?_)
  refine lv_iconst (v := nI 0) hx hb dL_law_16 (by decide +kernel) ?_
  refine lv_istore_n (lv' := [(3, .int (nI 0)), (2, .ref (q' 0)), (1, .ref (q 0)), (0, .ref b)]) hx hb dL_law_17 rfl hl (by decide) rfl (fun ls hl => ?_)
  exact lp_loop hL C0 hA hA' hbA hK ⟨Nat.le_of_ble_eq_true rfl, Nat.le_of_ble_eq_true rfl⟩ (L + 1) 0 (Nat.zero_le L) (by omega) ls (lv_sub hl [3, 2, 1, 0] rfl) _ _ _ _ ⟨fun _ => 0, fun _ => 0, nI 2, -1, nI 2, nI 1, fun _ => 0, fun _ => 0, fun _ => 0, 0, 0, fun _ => 0, fun _ => 0, fun _ => 0, ⟨Nat.zero_le _, Nat.zero_le _, ws_ok⟩, rfl, rfl⟩ hP hD hS
end
section
set_option maxRecDepth 100000
/-! THE CLAIM -/
theorem whole_start {p : Program} {e : Env} {s : State} {m : MethodId} {below : List Frame} {meth : Method} {c : Code} (l : Launch) {b L : Nat} {xs : Nat → Int32} (hL : L ≤ 320) (C0 : lw_At p s m meth c b L xs) : W p l e room_1 s m #[Value.ref b] below meth c s.heap [] 0 0 (lw_Z below #[Value.ref b] s) (entryFrame m ([Value.ref b] : List Value).toArray 4) := by
  exact ws_start l (A := fun z : Nat => s.heap.size ≤ z) (fun _ h => h) (fun _ h => h) hL C0
set_option maxHeartbeats 4000000 in
theorem lw_walk (l : Launch) (b : Addr) (xs : List Int32) : MetFree l x (headSpec (Jvm.Cond.code x code maxLocals ret :: tables_1) room_1) (lw_P b xs) (fun _ _ _ _ _ => True) lw_Q := by
  refine MetFree.of_bodyS (code := code) (maxLocals := maxLocals) (ret := ret) (by decide) ?_ ?_
  · intro args s m h hn
    obtain ⟨meth, c, h1, h2, h3, h4, h5, h6, -, -⟩ := Cond.code_spec hn (atoms_spec (ws := Jvm.Cond.code x code maxLocals ret :: tables_1) h _ List.mem_cons_self)
    exact ⟨meth, c, h1, h2, h3, h4, h5, h6⟩
  · intro p e s m args below meth c s₁ B hml0 hP _
    obtain ⟨rfl, hx, hbd, hgv⟩ := hP
    obtain ⟨scr, harrAt, hlist, hof, hsmall⟩ := hx
    obtain ⟨hcb, hkn, -, -⟩ := State.arrayAt?_spec harrAt
    have hown : s.vm.findClass R_law = some m.cls := findClass_of_methodNamed B.named
    have hts0 : ∀ c ∈ (Jvm.Cond.code x code maxLocals ret :: tables_1), c.before #[Value.ref b] s = true := atoms_spec (ws := Jvm.Cond.code x code maxLocals ret :: tables_1) B.pre
    have hts : ∀ w ∈ lw_tbl, w.before #[Value.ref b] s = true := k2_hts_sels lw_privs (fun w hw => hts0 w (List.mem_cons_of_mem _ hw)) lw_privs_ok
    have hml : c.maxLocals = 4 := B.maxLocals_eq (hts0 _ List.mem_cons_self)
    have X₀ : Stand p l e room_1 s m #[Value.ref b] below meth c s₁ [] 0 0 := Stand.of_body B
    have hh0 : s₁.heap = s.heap := by rw [B.state]; rfl
    have hsz : scr.slots.size = xs.length := by rw [← Array.length_toList, hlist, List.length_map]
    have hval : ∀ j : Nat, j < xs.length → scr.slots[j]? = some (.int (xs.getD j 0)) := fun j hj => by
      rw [← Array.getElem?_toList, hlist]
      simp [hj]
    have hbl : b < s.heap.size := (Array.getElem?_eq_some_iff.mp hcb).1
    have hX : va_X b xs.length (fun j => xs.getD j 0) s s.heap := ⟨scr, hcb, hof, hkn, hsz, hval⟩
    have K : W p l e room_1 s m #[Value.ref b] below meth c s₁.heap [] 0 0 (lw_Z below #[Value.ref b] s) (entryFrame m ([Value.ref b] : List Value).toArray 4) := by
      rw [hh0]
      exact whole_start l hbd ⟨B.exec, B.bytes, B.returns, hml, hown, hts, hX, hbl, B.notSynchronized, hgv⟩
    obtain ⟨t, a1, o, b1, b2, b3⟩ := K s₁ rfl X₀
    exact ⟨t, o, a1, b1, b2, b3⟩
theorem lw_pre_spec {args : Array Value} {s : State} (h : (Jvm.Cond.and given_1 narrow_1).before args s = true) (hr : rest_1_c.before args s = true) : ∃ (b : Addr) (xs : List Int32), lw_P b xs args s := by
  have hs := flat_of_before _ h
  have hq := flat_of_before _ hr
  have hc : (Cond.count 1).before args s = true := hs _ (by decide +kernel)
  have harr : (Cond.arrayOf (.arg 0) .int).before args s = true := hs _ (by decide +kernel)
  have hle : (Cond.le (.length (.arg 0)) (.int 320)).before args s = true := hs _ (by decide +kernel)
  have hlen : (Cond.isInt (.length (.arg 0))).before args s = true := hq _ (by decide +kernel)
  have hall : (Cond.all (.arg 0) (.isInt (.elem (.arg 0) (.index 0)))).before args s = true := hq _ (by decide +kernel)
  obtain ⟨b, xs, hb, hx⟩ := State.ints_of_pre rfl harr hlen hall
  have hsm : xs.length < 2 ^ 31 := hx.choose_spec.2.2.2
  have hev : (Term.length (.arg 0)).eval args s none [] s = some (.int xs.length.toInt32) := hx.length_eval hb
  have hv := Cond.le_ints hev (show (Term.int 320).eval args s none [] s = some (.int 320) from rfl)
  have hd : xs.length.toInt32 ≤ 320 := by
    simpa [Cond.before, Cond.holds, hv] using hle
  have hN : xs.length ≤ 320 := (Int32.ofNat_le_ofNat hsm (by decide)).mp (show Int32.ofNat xs.length ≤ Int32.ofNat 320 from hd)
  exact ⟨b, xs, Cond.one_arg hc (show args[0]? = some (.ref b) from hb), hx, hN, h⟩
theorem lw_comes (l : Launch) : Comes l x (Jvm.Cond.code x code maxLocals ret :: tables_1) room_1 (fun tb e args s => Calls_1 tb e args s ∧ rest_1 tb e args s ∧ Pre_1 tb e args s)
    (fun _ _ args s o t => lw_Q args s o t) := by
  intro p e ha hc hk s m args below hf hfit hheap happ hpre
  obtain ⟨b, xs, hP⟩ := lw_pre_spec hpre.2.2 hpre.2.1
  obtain ⟨k, o, h1, h2, h3, hQ⟩ := lw_walk l b xs p e ha hc hk s m args below hf ((Spec.applies_iff_loose hf).mp happ).1 hP trivial
  exact ⟨k, o, h1, h2, h3, hQ⟩
theorem lw_frame {s t : State} {o : Outcome} {args : Array Value} (h : Framed s o t [] 600000 7290000) :
    Framed s o t (fieldLocs frame_1_writes args s ++ arrayLocs frame_1_arrays args s ++ staticLocs frame_1_statics s) 600000 7290000 := h
theorem lw_limb (L : Cond) (hL : ∀ (args : Array Value) (s t : State), L.after args s (.returned (some (.int 1))) t = true) :
    ArmFor flags0 classFile x code maxLocals ret World_1 tables_1 room_1 Calls_1 rest_1 Pre_1
      (fun tb e a s o t => postC L tb e a s o t ∧ Framed s o t (fieldLocs frame_1_writes a s ++ arrayLocs frame_1_arrays a s ++ staticLocs frame_1_statics s) 600000 7290000) := by
  intro l _ _ _ p e ha hc hk s m args below hf hfit hheap happ hpre
  obtain ⟨k, o, h1, h2, h3, rfl, hF⟩ := lw_comes l p e ha hc hk s m args below hf hfit hheap happ hpre
  exact ⟨k, _, h1, h2, h3, hL args s _, lw_frame hF⟩
theorem i_vc : Claimed_1_1 ∧ Claimed_1_2 := ⟨lw_limb limb_1_1 (fun args s t => by simp [limb_1_1, Cond.after, Cond.holds, Cond.value]), lw_limb limb_1_2 (fun args s t => Cond.after_iff.mpr (by
  first | (rw [show limb_1_2 = Cond.eq .result (.int 1) from rfl, Cond.eq_ints (x := 1) (y := 1) rfl rfl]; simp; done) | (simp [limb_1_2, Cond.value, Term.eval]; done)))⟩
end
