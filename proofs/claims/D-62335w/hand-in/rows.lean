section
-- ===== PART A: goes FIRST, ahead of the names: the tables' words, and 'selects' of the private methods out of them =====
/-- a private method of a class that the tables say can be made, by its rows of tables_1 -/
def lw_okq (q : MethodName × Nat) : Prop := (q.1.cls ≠ "java/lang/invoke/MethodHandle" ∧ q.1.cls ≠ "java/lang/invoke/VarHandle") ∧ Cond.instantiable q.1.cls q.2 ∈ tables_1 ∧ Cond.privateMethod q.1 ∈ tables_1 ∧ Cond.instanceMethod q.1 ∈ tables_1
set_option maxRecDepth 100000
theorem lw_t1 {w : Cond} (h : w ∈ tables_1_1) : w ∈ tables_1 := List.mem_append_left _ h
theorem lw_t2 {w : Cond} (h : w ∈ tables_1_2) : w ∈ tables_1 := List.mem_append_right _ h
theorem lw_p0 : lw_okq (⟨"ReluBounds", "work", "(II)V"⟩, 14) := ⟨⟨by decide +kernel, by decide +kernel⟩, lw_t1 (List.mem_of_getElem? (i := 4) rfl), lw_t1 (List.mem_of_getElem? (i := 80) rfl), lw_t1 (List.mem_of_getElem? (i := 81) rfl)⟩
theorem lw_p1 : lw_okq (⟨"ReluBounds", "extreme", "(IIII)I"⟩, 14) := ⟨⟨by decide +kernel, by decide +kernel⟩, lw_t1 (List.mem_of_getElem? (i := 4) rfl), lw_t1 (List.mem_of_getElem? (i := 95) rfl), lw_t1 (List.mem_of_getElem? (i := 96) rfl)⟩
theorem lw_p2 : lw_okq (⟨"ReluBounds", "open", "(II)V"⟩, 14) := ⟨⟨by decide +kernel, by decide +kernel⟩, lw_t1 (List.mem_of_getElem? (i := 4) rfl), lw_t1 (List.mem_of_getElem? (i := 99) rfl), lw_t1 (List.mem_of_getElem? (i := 100) rfl)⟩
theorem lw_p3 : lw_okq (⟨"ReluBounds", "range", "(IIII)V"⟩, 14) := ⟨⟨by decide +kernel, by decide +kernel⟩, lw_t1 (List.mem_of_getElem? (i := 4) rfl), lw_t1 (List.mem_of_getElem? (i := 103) rfl), lw_t1 (List.mem_of_getElem? (i := 104) rfl)⟩
theorem lw_p4 : lw_okq (⟨"ReluBounds", "exact", "(IIIII)V"⟩, 14) := ⟨⟨by decide +kernel, by decide +kernel⟩, lw_t1 (List.mem_of_getElem? (i := 4) rfl), lw_t1 (List.mem_of_getElem? (i := 107) rfl), lw_t1 (List.mem_of_getElem? (i := 108) rfl)⟩
theorem lw_p5 : lw_okq (⟨"ReluBounds", "begin", "(II)V"⟩, 14) := ⟨⟨by decide +kernel, by decide +kernel⟩, lw_t1 (List.mem_of_getElem? (i := 4) rfl), lw_t1 (List.mem_of_getElem? (i := 111) rfl), lw_t1 (List.mem_of_getElem? (i := 112) rfl)⟩
theorem lw_p6 : lw_okq (⟨"ReluBounds", "bring", "(III)V"⟩, 14) := ⟨⟨by decide +kernel, by decide +kernel⟩, lw_t1 (List.mem_of_getElem? (i := 4) rfl), lw_t1 (List.mem_of_getElem? (i := 115) rfl), lw_t1 (List.mem_of_getElem? (i := 116) rfl)⟩
theorem lw_p7 : lw_okq (⟨"ReluBounds", "finish", "(IIIII)V"⟩, 14) := ⟨⟨by decide +kernel, by decide +kernel⟩, lw_t1 (List.mem_of_getElem? (i := 4) rfl), lw_t1 (List.mem_of_getElem? (i := 119) rfl), lw_t1 (List.mem_of_getElem? (i := 120) rfl)⟩
theorem lw_p8 : lw_okq (⟨"ReluBounds", "isPoint", "(I)Z"⟩, 14) := ⟨⟨by decide +kernel, by decide +kernel⟩, lw_t1 (List.mem_of_getElem? (i := 4) rfl), lw_t1 (List.mem_of_getElem? (i := 123) rfl), lw_t1 (List.mem_of_getElem? (i := 124) rfl)⟩
theorem lw_p9 : lw_okq (⟨"ReluBounds", "cut", "(I)V"⟩, 14) := ⟨⟨by decide +kernel, by decide +kernel⟩, lw_t1 (List.mem_of_getElem? (i := 4) rfl), lw_t1 (List.mem_of_getElem? (i := 127) rfl), lw_t1 (List.mem_of_getElem? (i := 128) rfl)⟩
theorem lw_p10 : lw_okq (⟨"ReluBounds", "firstAbove", "(III)I"⟩, 14) := ⟨⟨by decide +kernel, by decide +kernel⟩, lw_t1 (List.mem_of_getElem? (i := 4) rfl), lw_t1 (List.mem_of_getElem? (i := 139) rfl), lw_t1 (List.mem_of_getElem? (i := 140) rfl)⟩
theorem lw_p11 : lw_okq (⟨"ReluBounds", "patternOf", "()I"⟩, 14) := ⟨⟨by decide +kernel, by decide +kernel⟩, lw_t1 (List.mem_of_getElem? (i := 4) rfl), lw_t1 (List.mem_of_getElem? (i := 166) rfl), lw_t1 (List.mem_of_getElem? (i := 167) rfl)⟩
theorem lw_p12 : lw_okq (⟨"ReluBoundsModel", "offset", "(I)Z"⟩, 5) := ⟨⟨by decide +kernel, by decide +kernel⟩, lw_t1 (List.mem_of_getElem? (i := 170) rfl), lw_t1 (List.mem_of_getElem? (i := 196) rfl), lw_t1 (List.mem_of_getElem? (i := 197) rfl)⟩
theorem lw_p13 : lw_okq (⟨"ReluBoundsModel", "bad", "(I)Z"⟩, 5) := ⟨⟨by decide +kernel, by decide +kernel⟩, lw_t1 (List.mem_of_getElem? (i := 170) rfl), lw_t1 (List.mem_of_getElem? (i := 212) rfl), lw_t1 (List.mem_of_getElem? (i := 213) rfl)⟩
theorem lw_p14 : lw_okq (⟨"ReluBoundsModel", "given", "(II)I"⟩, 5) := ⟨⟨by decide +kernel, by decide +kernel⟩, lw_t1 (List.mem_of_getElem? (i := 170) rfl), lw_t1 (List.mem_of_getElem? (i := 217) rfl), lw_t1 (List.mem_of_getElem? (i := 218) rfl)⟩
theorem lw_p15 : lw_okq (⟨"ReluBoundsModel", "outer", "(III)I"⟩, 5) := ⟨⟨by decide +kernel, by decide +kernel⟩, lw_t1 (List.mem_of_getElem? (i := 170) rfl), lw_t1 (List.mem_of_getElem? (i := 221) rfl), lw_t1 (List.mem_of_getElem? (i := 222) rfl)⟩
def lw_privs_1 : List (MethodName × Nat) := [(⟨"ReluBounds", "work", "(II)V"⟩, 14), (⟨"ReluBounds", "extreme", "(IIII)I"⟩, 14), (⟨"ReluBounds", "open", "(II)V"⟩, 14), (⟨"ReluBounds", "range", "(IIII)V"⟩, 14), (⟨"ReluBounds", "exact", "(IIIII)V"⟩, 14), (⟨"ReluBounds", "begin", "(II)V"⟩, 14), (⟨"ReluBounds", "bring", "(III)V"⟩, 14), (⟨"ReluBounds", "finish", "(IIIII)V"⟩, 14), (⟨"ReluBounds", "isPoint", "(I)Z"⟩, 14), (⟨"ReluBounds", "cut", "(I)V"⟩, 14), (⟨"ReluBounds", "firstAbove", "(III)I"⟩, 14), (⟨"ReluBounds", "patternOf", "()I"⟩, 14), (⟨"ReluBoundsModel", "offset", "(I)Z"⟩, 5), (⟨"ReluBoundsModel", "bad", "(I)Z"⟩, 5), (⟨"ReluBoundsModel", "given", "(II)I"⟩, 5), (⟨"ReluBoundsModel", "outer", "(III)I"⟩, 5)]
theorem lw_r1 : ∀ q ∈ lw_privs_1, lw_okq q := List.forall_mem_cons.mpr ⟨lw_p0, List.forall_mem_cons.mpr ⟨lw_p1, List.forall_mem_cons.mpr ⟨lw_p2, List.forall_mem_cons.mpr ⟨lw_p3, List.forall_mem_cons.mpr ⟨lw_p4, List.forall_mem_cons.mpr ⟨lw_p5, List.forall_mem_cons.mpr ⟨lw_p6, List.forall_mem_cons.mpr ⟨lw_p7, List.forall_mem_cons.mpr ⟨lw_p8, List.forall_mem_cons.mpr ⟨lw_p9, List.forall_mem_cons.mpr ⟨lw_p10, List.forall_mem_cons.mpr ⟨lw_p11, List.forall_mem_cons.mpr ⟨lw_p12, List.forall_mem_cons.mpr ⟨lw_p13, List.forall_mem_cons.mpr ⟨lw_p14, List.forall_mem_cons.mpr ⟨lw_p15, fun _ h => absurd h List.not_mem_nil⟩⟩⟩⟩⟩⟩⟩⟩⟩⟩⟩⟩⟩⟩⟩⟩
theorem lw_p16 : lw_okq (⟨"ReluBoundsModel", "inner", "(III)I"⟩, 5) := ⟨⟨by decide +kernel, by decide +kernel⟩, lw_t1 (List.mem_of_getElem? (i := 170) rfl), lw_t1 (List.mem_of_getElem? (i := 225) rfl), lw_t1 (List.mem_of_getElem? (i := 226) rfl)⟩
theorem lw_p17 : lw_okq (⟨"ReluBoundsModel", "clip", "(I)I"⟩, 5) := ⟨⟨by decide +kernel, by decide +kernel⟩, lw_t1 (List.mem_of_getElem? (i := 170) rfl), lw_t1 (List.mem_of_getElem? (i := 229) rfl), lw_t1 (List.mem_of_getElem? (i := 230) rfl)⟩
theorem lw_p18 : lw_okq (⟨"ReluBoundsModel", "unitGiven", "(III)I"⟩, 5) := ⟨⟨by decide +kernel, by decide +kernel⟩, lw_t1 (List.mem_of_getElem? (i := 170) rfl), lw_t1 (List.mem_of_getElem? (i := 237) rfl), lw_t1 (List.mem_of_getElem? (i := 238) rfl)⟩
theorem lw_p19 : lw_okq (⟨"ReluBoundsModel", "take", "(II)Z"⟩, 5) := ⟨⟨by decide +kernel, by decide +kernel⟩, lw_t1 (List.mem_of_getElem? (i := 170) rfl), lw_t2 (List.mem_of_getElem? (i := 5) rfl), lw_t2 (List.mem_of_getElem? (i := 6) rfl)⟩
theorem lw_p20 : lw_okq (⟨"ReluBoundsModel", "badInterval", "(I)Z"⟩, 5) := ⟨⟨by decide +kernel, by decide +kernel⟩, lw_t1 (List.mem_of_getElem? (i := 170) rfl), lw_t2 (List.mem_of_getElem? (i := 9) rfl), lw_t2 (List.mem_of_getElem? (i := 10) rfl)⟩
theorem lw_p21 : lw_okq (⟨"ReluBoundsModel", "extreme", "(I)I"⟩, 5) := ⟨⟨by decide +kernel, by decide +kernel⟩, lw_t1 (List.mem_of_getElem? (i := 170) rfl), lw_t2 (List.mem_of_getElem? (i := 13) rfl), lw_t2 (List.mem_of_getElem? (i := 14) rfl)⟩
theorem lw_p22 : lw_okq (⟨"ReluBoundsModel", "above", "(I)I"⟩, 5) := ⟨⟨by decide +kernel, by decide +kernel⟩, lw_t1 (List.mem_of_getElem? (i := 170) rfl), lw_t2 (List.mem_of_getElem? (i := 25) rfl), lw_t2 (List.mem_of_getElem? (i := 26) rfl)⟩
theorem lw_p23 : lw_okq (⟨"ReluBoundsModel", "marks", "(II)I"⟩, 5) := ⟨⟨by decide +kernel, by decide +kernel⟩, lw_t1 (List.mem_of_getElem? (i := 170) rfl), lw_t2 (List.mem_of_getElem? (i := 49) rfl), lw_t2 (List.mem_of_getElem? (i := 50) rfl)⟩
def lw_privs_2 : List (MethodName × Nat) := [(⟨"ReluBoundsModel", "inner", "(III)I"⟩, 5), (⟨"ReluBoundsModel", "clip", "(I)I"⟩, 5), (⟨"ReluBoundsModel", "unitGiven", "(III)I"⟩, 5), (⟨"ReluBoundsModel", "take", "(II)Z"⟩, 5), (⟨"ReluBoundsModel", "badInterval", "(I)Z"⟩, 5), (⟨"ReluBoundsModel", "extreme", "(I)I"⟩, 5), (⟨"ReluBoundsModel", "above", "(I)I"⟩, 5), (⟨"ReluBoundsModel", "marks", "(II)I"⟩, 5)]
theorem lw_r2 : ∀ q ∈ lw_privs_2, lw_okq q := List.forall_mem_cons.mpr ⟨lw_p16, List.forall_mem_cons.mpr ⟨lw_p17, List.forall_mem_cons.mpr ⟨lw_p18, List.forall_mem_cons.mpr ⟨lw_p19, List.forall_mem_cons.mpr ⟨lw_p20, List.forall_mem_cons.mpr ⟨lw_p21, List.forall_mem_cons.mpr ⟨lw_p22, List.forall_mem_cons.mpr ⟨lw_p23, fun _ h => absurd h List.not_mem_nil⟩⟩⟩⟩⟩⟩⟩⟩
def lw_privs : List (MethodName × Nat) := lw_privs_1 ++ (lw_privs_2)
def lw_tbl : List Cond := k2_sels lw_privs ++ tables_1
theorem lw_privs_ok : ∀ q ∈ lw_privs, lw_okq q := by
  show ∀ q ∈ lw_privs_1 ++ (lw_privs_2), lw_okq q
  exact List.forall_mem_append.mpr ⟨lw_r1, lw_r2⟩
-- ===== ONE list of words for every method: the tables' words that hold all through a run =====
def lw_all : List Cond := lw_tbl.filter goodWord
/-- a word of the tables by its place: claim/WORDS.tsv -/
theorem lw_w {w : Cond} (i : Nat) (h : lw_tbl[i]? = some w) (g : goodWord w = true) : w ∈ lw_all := List.mem_filter.mpr ⟨List.mem_of_getElem? h, g⟩
theorem lw_all_tbl {w : Cond} (h : w ∈ lw_all) : w ∈ lw_tbl := (List.mem_filter.mp h).1
theorem lw_self : GoodIn lw_all lw_all := fun w h => ⟨h, good_of_word (List.mem_filter.mp h).2⟩
/-- a class's field words, by their places -/
theorem lw_in (ws : List Cond) (ps : List Nat) (hp : ws = ps.filterMap (fun i => lw_tbl[i]?)) (hg : ws.all goodWord = true) : ∀ w ∈ ws, w ∈ lw_all := by
  intro w h
  have h1 := List.all_eq_true.mp hg w h
  rw [hp] at h
  obtain ⟨i, -, hi⟩ := List.mem_filterMap.mp h
  exact lw_w i hi h1
/-- the words of a contract for the method y with code b, L locals, answer r -/
abbrev ws_ (y : MethodName) (b : ByteArray) (L : Nat) (r : Option FieldType) : List Cond := Cond.code y b L r :: lw_all
theorem lw_meth {y : MethodName} {b : ByteArray} {L : Nat} {r : Option FieldType} (h : Cond.code y b L r ∈ lw_all) : GoodIn lw_all (ws_ y b L r) := by
  intro w hw
  rcases List.mem_cons.mp hw with e | e
  · rw [e]
    exact lw_self _ h
  · exact lw_self _ e
theorem lw_app {a c : List Cond} (ha : ∀ w ∈ a, w ∈ lw_all) (hc : GoodIn lw_all c) : GoodIn lw_all (a ++ c) := by
  intro w hw
  rcases List.mem_append.mp hw with e | e
  · exact lw_self w (ha w e)
  · exact hc w e
/-- what a call through an object asks: cwV n hts (lw_V ..) -/
theorem lw_V {own : String} {idx : Nat} {C : String} {y : MethodName} {b : ByteArray} {L : Nat} {r : Option FieldType} (h1 : Cond.methodLink own idx y ∈ lw_all) (h2 : Cond.instanceMethod y ∈ lw_all) (h3 : Cond.selects C y y ∈ lw_all) (h4 : Cond.initialized C ∈ lw_all) (h5 : Cond.code y b L r ∈ lw_all) : GoodIn lw_all (wsV own idx C y (ws_ y b L r)) := by
  refine lw_app ?_ (lw_meth h5)
  intro w hw
  simp only [List.mem_cons, List.not_mem_nil, or_false] at hw
  rcases hw with e | e | e | e
  · rw [e]; exact h1
  · rw [e]; exact h2
  · rw [e]; exact h3
  · rw [e]; exact h4
/-- what a static call asks: va_cwS n hts (lw_S ..) -/
theorem lw_S {own : String} {idx : Nat} {y : MethodName} {b : ByteArray} {L : Nat} {r : Option FieldType} (h1 : Cond.methodLink own idx y ∈ lw_all) (h2 : Cond.static y ∈ lw_all) (h3 : Cond.initialized y.cls ∈ lw_all) (h4 : Cond.code y b L r ∈ lw_all) : GoodIn lw_all (va_wsS own idx y (ws_ y b L r)) := by
  refine lw_app ?_ (lw_meth h4)
  intro w hw
  simp only [List.mem_cons, List.not_mem_nil, or_false] at hw
  rcases hw with e | e | e
  · rw [e]; exact h1
  · rw [e]; exact h2
  · rw [e]; exact h3
/-- the words of a contract for a method WITH HANDLERS (hh: its table) -/
abbrev wsW_ (y : MethodName) (b : ByteArray) (L : Nat) (r : Option FieldType) (hh : List (Nat × Nat × Nat × Nat)) : List Cond := Cond.codeWith y b L r hh :: lw_all
theorem lw_methW {y : MethodName} {b : ByteArray} {L : Nat} {r : Option FieldType} {hh : List (Nat × Nat × Nat × Nat)} (h : Cond.codeWith y b L r hh ∈ lw_all) : GoodIn lw_all (wsW_ y b L r hh) := by
  intro w hw
  rcases List.mem_cons.mp hw with e | e
  · rw [e]
    exact lw_self _ h
  · exact lw_self _ e
/-- any list of words by their places (lw_in), good -/
theorem lw_good {ws : List Cond} (h : ∀ w ∈ ws, w ∈ lw_all) : GoodIn lw_all ws := fun w hw => lw_self w (h w hw)
/-- what a call of a method with handlers asks: vx_cwVW n hts (lw_VW ..), vx_cwSW n hts (lw_SW ..) -/
theorem lw_VW {own : String} {idx : Nat} {C : String} {y : MethodName} {b : ByteArray} {L : Nat} {r : Option FieldType} {hh : List (Nat × Nat × Nat × Nat)} (h1 : Cond.methodLink own idx y ∈ lw_all) (h2 : Cond.instanceMethod y ∈ lw_all) (h3 : Cond.selects C y y ∈ lw_all) (h4 : Cond.initialized C ∈ lw_all) (h5 : Cond.codeWith y b L r hh ∈ lw_all) : GoodIn lw_all (wsV own idx C y (wsW_ y b L r hh)) := by
  refine lw_app ?_ (lw_methW h5)
  intro w hw
  simp only [List.mem_cons, List.not_mem_nil, or_false] at hw
  rcases hw with e | e | e | e
  · rw [e]; exact h1
  · rw [e]; exact h2
  · rw [e]; exact h3
  · rw [e]; exact h4
theorem lw_SW {own : String} {idx : Nat} {y : MethodName} {b : ByteArray} {L : Nat} {r : Option FieldType} {hh : List (Nat × Nat × Nat × Nat)} (h1 : Cond.methodLink own idx y ∈ lw_all) (h2 : Cond.static y ∈ lw_all) (h3 : Cond.initialized y.cls ∈ lw_all) (h4 : Cond.codeWith y b L r hh ∈ lw_all) : GoodIn lw_all (va_wsS own idx y (wsW_ y b L r hh)) := by
  refine lw_app ?_ (lw_methW h4)
  intro w hw
  simp only [List.mem_cons, List.not_mem_nil, or_false] at hw
  rcases hw with e | e | e
  · rw [e]; exact h1
  · rw [e]; exact h2
  · rw [e]; exact h3
/-- a word by its place in its run of the tables -/
theorem lw_at {r : List Cond} (hr : ∀ w ∈ r, w ∈ lw_tbl) {w : Cond} (i : Nat) (h : r[i]? = some w) : w ∈ lw_tbl := hr w (List.mem_of_getElem? h)
theorem lw_g {w : Cond} (h : w ∈ lw_tbl) (g : goodWord w = true) : w ∈ lw_all := List.mem_filter.mpr ⟨h, g⟩
theorem lw_ms : ∀ w ∈ k2_sels lw_privs, w ∈ lw_tbl := fun w h => show w ∈ k2_sels lw_privs ++ tables_1 from List.mem_append_left _ h
theorem lw_m1 : ∀ w ∈ tables_1_1, w ∈ lw_tbl := fun w h => show w ∈ k2_sels lw_privs ++ tables_1 from List.mem_append_right (k2_sels lw_privs) (show w ∈ tables_1 from List.mem_append_left _ h)
theorem lw_m2 : ∀ w ∈ tables_1_2, w ∈ lw_tbl := fun w h => show w ∈ k2_sels lw_privs ++ tables_1 from List.mem_append_right (k2_sels lw_privs) (show w ∈ tables_1 from List.mem_append_right _ h)
theorem qs0 : (Cond.selects "ReluBounds" ⟨"ReluBounds", "work", "(II)V"⟩ ⟨"ReluBounds", "work", "(II)V"⟩) ∈ lw_all := lw_g (lw_at lw_ms 0 rfl) rfl
theorem qs1 : (Cond.selects "ReluBounds" ⟨"ReluBounds", "extreme", "(IIII)I"⟩ ⟨"ReluBounds", "extreme", "(IIII)I"⟩) ∈ lw_all := lw_g (lw_at lw_ms 1 rfl) rfl
theorem qs2 : (Cond.selects "ReluBounds" ⟨"ReluBounds", "open", "(II)V"⟩ ⟨"ReluBounds", "open", "(II)V"⟩) ∈ lw_all := lw_g (lw_at lw_ms 2 rfl) rfl
theorem qs3 : (Cond.selects "ReluBounds" ⟨"ReluBounds", "range", "(IIII)V"⟩ ⟨"ReluBounds", "range", "(IIII)V"⟩) ∈ lw_all := lw_g (lw_at lw_ms 3 rfl) rfl
theorem qs4 : (Cond.selects "ReluBounds" ⟨"ReluBounds", "exact", "(IIIII)V"⟩ ⟨"ReluBounds", "exact", "(IIIII)V"⟩) ∈ lw_all := lw_g (lw_at lw_ms 4 rfl) rfl
theorem qs5 : (Cond.selects "ReluBounds" ⟨"ReluBounds", "begin", "(II)V"⟩ ⟨"ReluBounds", "begin", "(II)V"⟩) ∈ lw_all := lw_g (lw_at lw_ms 5 rfl) rfl
theorem qs6 : (Cond.selects "ReluBounds" ⟨"ReluBounds", "bring", "(III)V"⟩ ⟨"ReluBounds", "bring", "(III)V"⟩) ∈ lw_all := lw_g (lw_at lw_ms 6 rfl) rfl
theorem qs7 : (Cond.selects "ReluBounds" ⟨"ReluBounds", "finish", "(IIIII)V"⟩ ⟨"ReluBounds", "finish", "(IIIII)V"⟩) ∈ lw_all := lw_g (lw_at lw_ms 7 rfl) rfl
theorem qs8 : (Cond.selects "ReluBounds" ⟨"ReluBounds", "isPoint", "(I)Z"⟩ ⟨"ReluBounds", "isPoint", "(I)Z"⟩) ∈ lw_all := lw_g (lw_at lw_ms 8 rfl) rfl
theorem qs9 : (Cond.selects "ReluBounds" ⟨"ReluBounds", "cut", "(I)V"⟩ ⟨"ReluBounds", "cut", "(I)V"⟩) ∈ lw_all := lw_g (lw_at lw_ms 9 rfl) rfl
theorem qs10 : (Cond.selects "ReluBounds" ⟨"ReluBounds", "firstAbove", "(III)I"⟩ ⟨"ReluBounds", "firstAbove", "(III)I"⟩) ∈ lw_all := lw_g (lw_at lw_ms 10 rfl) rfl
theorem qs11 : (Cond.selects "ReluBounds" ⟨"ReluBounds", "patternOf", "()I"⟩ ⟨"ReluBounds", "patternOf", "()I"⟩) ∈ lw_all := lw_g (lw_at lw_ms 11 rfl) rfl
theorem qs12 : (Cond.selects "ReluBoundsModel" ⟨"ReluBoundsModel", "offset", "(I)Z"⟩ ⟨"ReluBoundsModel", "offset", "(I)Z"⟩) ∈ lw_all := lw_g (lw_at lw_ms 12 rfl) rfl
theorem qs13 : (Cond.selects "ReluBoundsModel" ⟨"ReluBoundsModel", "bad", "(I)Z"⟩ ⟨"ReluBoundsModel", "bad", "(I)Z"⟩) ∈ lw_all := lw_g (lw_at lw_ms 13 rfl) rfl
theorem qs14 : (Cond.selects "ReluBoundsModel" ⟨"ReluBoundsModel", "given", "(II)I"⟩ ⟨"ReluBoundsModel", "given", "(II)I"⟩) ∈ lw_all := lw_g (lw_at lw_ms 14 rfl) rfl
theorem qs15 : (Cond.selects "ReluBoundsModel" ⟨"ReluBoundsModel", "outer", "(III)I"⟩ ⟨"ReluBoundsModel", "outer", "(III)I"⟩) ∈ lw_all := lw_g (lw_at lw_ms 15 rfl) rfl
theorem qs16 : (Cond.selects "ReluBoundsModel" ⟨"ReluBoundsModel", "inner", "(III)I"⟩ ⟨"ReluBoundsModel", "inner", "(III)I"⟩) ∈ lw_all := lw_g (lw_at lw_ms 16 rfl) rfl
theorem qs17 : (Cond.selects "ReluBoundsModel" ⟨"ReluBoundsModel", "clip", "(I)I"⟩ ⟨"ReluBoundsModel", "clip", "(I)I"⟩) ∈ lw_all := lw_g (lw_at lw_ms 17 rfl) rfl
theorem qs18 : (Cond.selects "ReluBoundsModel" ⟨"ReluBoundsModel", "unitGiven", "(III)I"⟩ ⟨"ReluBoundsModel", "unitGiven", "(III)I"⟩) ∈ lw_all := lw_g (lw_at lw_ms 18 rfl) rfl
theorem qs19 : (Cond.selects "ReluBoundsModel" ⟨"ReluBoundsModel", "take", "(II)Z"⟩ ⟨"ReluBoundsModel", "take", "(II)Z"⟩) ∈ lw_all := lw_g (lw_at lw_ms 19 rfl) rfl
theorem qs20 : (Cond.selects "ReluBoundsModel" ⟨"ReluBoundsModel", "badInterval", "(I)Z"⟩ ⟨"ReluBoundsModel", "badInterval", "(I)Z"⟩) ∈ lw_all := lw_g (lw_at lw_ms 20 rfl) rfl
theorem qs21 : (Cond.selects "ReluBoundsModel" ⟨"ReluBoundsModel", "extreme", "(I)I"⟩ ⟨"ReluBoundsModel", "extreme", "(I)I"⟩) ∈ lw_all := lw_g (lw_at lw_ms 21 rfl) rfl
theorem qs22 : (Cond.selects "ReluBoundsModel" ⟨"ReluBoundsModel", "above", "(I)I"⟩ ⟨"ReluBoundsModel", "above", "(I)I"⟩) ∈ lw_all := lw_g (lw_at lw_ms 22 rfl) rfl
theorem qs23 : (Cond.selects "ReluBoundsModel" ⟨"ReluBoundsModel", "marks", "(II)I"⟩ ⟨"ReluBoundsModel", "marks", "(II)I"⟩) ∈ lw_all := lw_g (lw_at lw_ms 23 rfl) rfl
end
section
set_option maxRecDepth 100000
/-! ReluBounds -/
set_option maxRecDepth 100000
def RX0 : String := "ReluBounds"
def TX0 : u_T := fun k => match k with
  | 0 => ("ReluBounds", "numbers", "[I", true)
  | 1 => ("ReluBounds", "units", "[I", true)
  | 2 => ("ReluBounds", "lows", "[I", true)
  | 3 => ("ReluBounds", "highs", "[I", true)
  | 4 => ("ReluBounds", "factor0", "[I", true)
  | 5 => ("ReluBounds", "factor1", "[I", true)
  | 6 => ("ReluBounds", "rest", "[I", true)
  | 7 => ("ReluBounds", "linear", "[Z", true)
  | 8 => ("ReluBounds", "left", "[I", true)
  | 9 => ("ReluBounds", "right", "[I", true)
  | 10 => ("ReluBounds", "bottom", "[I", true)
  | 11 => ("ReluBounds", "top", "[I", true)
  | 12 => ("ReluBounds", "waiting", "I", false)
  | _ => ("ReluBounds", "best", "I", false)
def tyX0 : Nat → FieldType := fun k => match k with
  | 0 => .array .int
  | 1 => .array .int
  | 2 => .array .int
  | 3 => .array .int
  | 4 => .array .int
  | 5 => .array .int
  | 6 => .array .int
  | 7 => .array .boolean
  | 8 => .array .int
  | 9 => .array .int
  | 10 => .array .int
  | 11 => .array .int
  | 12 => .int
  | _ => .int
abbrev wsX00 : List Cond := u_ws RX0 TX0 14
set_option maxRecDepth 100000 in
theorem nmX0 : ∀ a, a < 14 → ∀ b, b < 14 → a ≠ b → (TX0 a).2.1 ≠ (TX0 b).2.1 := by decide +kernel
set_option maxRecDepth 100000 in
theorem tyX0_ok : ∀ k, k < 14 → parseFieldDescriptor (TX0 k).2.2.1 = some (tyX0 k) := by decide +kernel
abbrev cX0_init : ByteArray := prog_1_method_1_code
def yX0_init : MethodName := ⟨RX0, "<init>", "()V"⟩
abbrev cX0_set : ByteArray := prog_1_method_2_code
def yX0_set : MethodName := ⟨RX0, "set", "(II)I"⟩
abbrev cX0_isOffset : ByteArray := prog_1_method_15_code
def yX0_isOffset : MethodName := ⟨RX0, "isOffset", "(I)Z"⟩
abbrev cX0_sow : ByteArray := prog_1_method_3_code
def yX0_sow : MethodName := ⟨RX0, "sow", "(II)I"⟩
abbrev cX0_get : ByteArray := prog_1_method_4_code
def yX0_get : MethodName := ⟨RX0, "get", "(I)I"⟩
abbrev cX0_result : ByteArray := prog_1_method_5_code
def yX0_result : MethodName := ⟨RX0, "result", "(II)I"⟩
abbrev cX0_isInput : ByteArray := prog_1_method_16_code
def yX0_isInput : MethodName := ⟨RX0, "isInput", "(I)Z"⟩
abbrev cX0_work : ByteArray := prog_1_method_19_code
def yX0_work : MethodName := ⟨RX0, "work", "(II)V"⟩
abbrev cX0_unit : ByteArray := prog_1_method_6_code
def yX0_unit : MethodName := ⟨RX0, "unit", "(III)I"⟩
abbrev cX0_most : ByteArray := prog_1_method_7_code
def yX0_most : MethodName := ⟨RX0, "most", "(II)I"⟩
abbrev cX0_isInterval : ByteArray := prog_1_method_17_code
def yX0_isInterval : MethodName := ⟨RX0, "isInterval", "(I)Z"⟩
abbrev cX0_extreme : ByteArray := prog_1_method_28_code
def yX0_extreme : MethodName := ⟨RX0, "extreme", "(IIII)I"⟩
abbrev cX0_open : ByteArray := prog_1_method_25_code
def yX0_open : MethodName := ⟨RX0, "open", "(II)V"⟩
abbrev cX0_range : ByteArray := prog_1_method_20_code
def yX0_range : MethodName := ⟨RX0, "range", "(IIII)V"⟩
abbrev cX0_exact : ByteArray := prog_1_method_24_code
def yX0_exact : MethodName := ⟨RX0, "exact", "(IIIII)V"⟩
abbrev cX0_begin : ByteArray := prog_1_method_21_code
def yX0_begin : MethodName := ⟨RX0, "begin", "(II)V"⟩
abbrev cX0_bring : ByteArray := prog_1_method_22_code
def yX0_bring : MethodName := ⟨RX0, "bring", "(III)V"⟩
abbrev cX0_finish : ByteArray := prog_1_method_23_code
def yX0_finish : MethodName := ⟨RX0, "finish", "(IIIII)V"⟩
abbrev cX0_isPoint : ByteArray := prog_1_method_27_code
def yX0_isPoint : MethodName := ⟨RX0, "isPoint", "(I)Z"⟩
abbrev cX0_cut : ByteArray := prog_1_method_26_code
def yX0_cut : MethodName := ⟨RX0, "cut", "(I)V"⟩
abbrev cX0_least : ByteArray := prog_1_method_8_code
def yX0_least : MethodName := ⟨RX0, "least", "(II)I"⟩
abbrev cX0_mostAt : ByteArray := prog_1_method_9_code
def yX0_mostAt : MethodName := ⟨RX0, "mostAt", "(II)I"⟩
abbrev cX0_firstAbove : ByteArray := prog_1_method_29_code
def yX0_firstAbove : MethodName := ⟨RX0, "firstAbove", "(III)I"⟩
abbrev cX0_safe : ByteArray := prog_1_method_10_code
def yX0_safe : MethodName := ⟨RX0, "safe", "(III)I"⟩
abbrev cX0_breach : ByteArray := prog_1_method_11_code
def yX0_breach : MethodName := ⟨RX0, "breach", "(III)I"⟩
abbrev cX0_fixed : ByteArray := prog_1_method_12_code
def yX0_fixed : MethodName := ⟨RX0, "fixed", "(III)I"⟩
abbrev cX0_radius : ByteArray := prog_1_method_13_code
def yX0_radius : MethodName := ⟨RX0, "radius", "(III)I"⟩
abbrev cX0_around : ByteArray := prog_1_method_18_code
def yX0_around : MethodName := ⟨RX0, "around", "(II)I"⟩
abbrev cX0_patterns : ByteArray := prog_1_method_14_code
def yX0_patterns : MethodName := ⟨RX0, "patterns", "(II)I"⟩
abbrev cX0_patternOf : ByteArray := prog_1_method_30_code
def yX0_patternOf : MethodName := ⟨RX0, "patternOf", "()I"⟩
theorem q25 : (Jvm.Cond.initialized "ReluBounds") ∈ lw_all := lw_g (lw_at lw_m1 1 rfl) rfl
theorem q28 : (Jvm.Cond.instantiable "ReluBounds" (14 : Nat)) ∈ lw_all := lw_g (lw_at lw_m1 4 rfl) rfl
theorem q30 : (Jvm.Cond.instanceMethod ({ cls := "ReluBounds", name := "<init>", desc := "()V" } : Jvm.MethodName)) ∈ lw_all := lw_g (lw_at lw_m1 6 rfl) rfl
theorem q31 : (Jvm.Cond.code ({ cls := "ReluBounds", name := "<init>", desc := "()V" } : Jvm.MethodName) prog_1_method_1_code (1 : Nat) (Option.none : Option Jvm.ClassFile.FieldType)) ∈ lw_all := lw_g (lw_at lw_m1 7 rfl) rfl
theorem q32 : (Jvm.Cond.methodLink "ReluBounds" (1 : Nat) ({ cls := "java/lang/Object", name := "<init>", desc := "()V" } : Jvm.MethodName)) ∈ lw_all := lw_g (lw_at lw_m1 8 rfl) rfl
theorem q35 : (Jvm.Cond.fieldLink "ReluBounds" (7 : Nat) "ReluBounds" "numbers" "[I") ∈ lw_all := lw_g (lw_at lw_m1 11 rfl) rfl
theorem q36 : (Jvm.Cond.fieldLink "ReluBounds" (13 : Nat) "ReluBounds" "units" "[I") ∈ lw_all := lw_g (lw_at lw_m1 12 rfl) rfl
theorem q37 : (Jvm.Cond.fieldLink "ReluBounds" (16 : Nat) "ReluBounds" "lows" "[I") ∈ lw_all := lw_g (lw_at lw_m1 13 rfl) rfl
theorem q38 : (Jvm.Cond.fieldLink "ReluBounds" (19 : Nat) "ReluBounds" "highs" "[I") ∈ lw_all := lw_g (lw_at lw_m1 14 rfl) rfl
theorem q39 : (Jvm.Cond.fieldLink "ReluBounds" (22 : Nat) "ReluBounds" "factor0" "[I") ∈ lw_all := lw_g (lw_at lw_m1 15 rfl) rfl
theorem q40 : (Jvm.Cond.fieldLink "ReluBounds" (25 : Nat) "ReluBounds" "factor1" "[I") ∈ lw_all := lw_g (lw_at lw_m1 16 rfl) rfl
theorem q41 : (Jvm.Cond.fieldLink "ReluBounds" (28 : Nat) "ReluBounds" "rest" "[I") ∈ lw_all := lw_g (lw_at lw_m1 17 rfl) rfl
theorem q42 : (Jvm.Cond.fieldLink "ReluBounds" (31 : Nat) "ReluBounds" "linear" "[Z") ∈ lw_all := lw_g (lw_at lw_m1 18 rfl) rfl
theorem q43 : (Jvm.Cond.fieldLink "ReluBounds" (35 : Nat) "ReluBounds" "left" "[I") ∈ lw_all := lw_g (lw_at lw_m1 19 rfl) rfl
theorem q44 : (Jvm.Cond.fieldLink "ReluBounds" (38 : Nat) "ReluBounds" "right" "[I") ∈ lw_all := lw_g (lw_at lw_m1 20 rfl) rfl
theorem q45 : (Jvm.Cond.fieldLink "ReluBounds" (41 : Nat) "ReluBounds" "bottom" "[I") ∈ lw_all := lw_g (lw_at lw_m1 21 rfl) rfl
theorem q46 : (Jvm.Cond.fieldLink "ReluBounds" (44 : Nat) "ReluBounds" "top" "[I") ∈ lw_all := lw_g (lw_at lw_m1 22 rfl) rfl
theorem q47 : (Jvm.Cond.fieldLink "ReluBounds" (47 : Nat) "ReluBounds" "waiting" "I") ∈ lw_all := lw_g (lw_at lw_m1 23 rfl) rfl
theorem q48 : (Jvm.Cond.fieldLink "ReluBounds" (107 : Nat) "ReluBounds" "best" "I") ∈ lw_all := lw_g (lw_at lw_m1 24 rfl) rfl
theorem q49 : (Jvm.Cond.laysFinal "ReluBounds" "ReluBounds" "numbers" "[I") ∈ lw_all := lw_g (lw_at lw_m1 25 rfl) rfl
theorem q50 : (Jvm.Cond.soleField "ReluBounds" "numbers") ∈ lw_all := lw_g (lw_at lw_m1 26 rfl) rfl
theorem q51 : (Jvm.Cond.laysFinal "ReluBounds" "ReluBounds" "units" "[I") ∈ lw_all := lw_g (lw_at lw_m1 27 rfl) rfl
theorem q52 : (Jvm.Cond.soleField "ReluBounds" "units") ∈ lw_all := lw_g (lw_at lw_m1 28 rfl) rfl
theorem q53 : (Jvm.Cond.laysFinal "ReluBounds" "ReluBounds" "lows" "[I") ∈ lw_all := lw_g (lw_at lw_m1 29 rfl) rfl
theorem q54 : (Jvm.Cond.soleField "ReluBounds" "lows") ∈ lw_all := lw_g (lw_at lw_m1 30 rfl) rfl
theorem q55 : (Jvm.Cond.laysFinal "ReluBounds" "ReluBounds" "highs" "[I") ∈ lw_all := lw_g (lw_at lw_m1 31 rfl) rfl
theorem q56 : (Jvm.Cond.soleField "ReluBounds" "highs") ∈ lw_all := lw_g (lw_at lw_m1 32 rfl) rfl
theorem q57 : (Jvm.Cond.laysFinal "ReluBounds" "ReluBounds" "factor0" "[I") ∈ lw_all := lw_g (lw_at lw_m1 33 rfl) rfl
theorem q58 : (Jvm.Cond.soleField "ReluBounds" "factor0") ∈ lw_all := lw_g (lw_at lw_m1 34 rfl) rfl
theorem q59 : (Jvm.Cond.laysFinal "ReluBounds" "ReluBounds" "factor1" "[I") ∈ lw_all := lw_g (lw_at lw_m1 35 rfl) rfl
theorem q60 : (Jvm.Cond.soleField "ReluBounds" "factor1") ∈ lw_all := lw_g (lw_at lw_m1 36 rfl) rfl
theorem q61 : (Jvm.Cond.laysFinal "ReluBounds" "ReluBounds" "rest" "[I") ∈ lw_all := lw_g (lw_at lw_m1 37 rfl) rfl
theorem q62 : (Jvm.Cond.soleField "ReluBounds" "rest") ∈ lw_all := lw_g (lw_at lw_m1 38 rfl) rfl
theorem q63 : (Jvm.Cond.laysFinal "ReluBounds" "ReluBounds" "linear" "[Z") ∈ lw_all := lw_g (lw_at lw_m1 39 rfl) rfl
theorem q64 : (Jvm.Cond.soleField "ReluBounds" "linear") ∈ lw_all := lw_g (lw_at lw_m1 40 rfl) rfl
theorem q65 : (Jvm.Cond.laysFinal "ReluBounds" "ReluBounds" "left" "[I") ∈ lw_all := lw_g (lw_at lw_m1 41 rfl) rfl
theorem q66 : (Jvm.Cond.soleField "ReluBounds" "left") ∈ lw_all := lw_g (lw_at lw_m1 42 rfl) rfl
theorem q67 : (Jvm.Cond.laysFinal "ReluBounds" "ReluBounds" "right" "[I") ∈ lw_all := lw_g (lw_at lw_m1 43 rfl) rfl
theorem q68 : (Jvm.Cond.soleField "ReluBounds" "right") ∈ lw_all := lw_g (lw_at lw_m1 44 rfl) rfl
theorem q69 : (Jvm.Cond.laysFinal "ReluBounds" "ReluBounds" "bottom" "[I") ∈ lw_all := lw_g (lw_at lw_m1 45 rfl) rfl
theorem q70 : (Jvm.Cond.soleField "ReluBounds" "bottom") ∈ lw_all := lw_g (lw_at lw_m1 46 rfl) rfl
theorem q71 : (Jvm.Cond.laysFinal "ReluBounds" "ReluBounds" "top" "[I") ∈ lw_all := lw_g (lw_at lw_m1 47 rfl) rfl
theorem q72 : (Jvm.Cond.soleField "ReluBounds" "top") ∈ lw_all := lw_g (lw_at lw_m1 48 rfl) rfl
theorem q73 : (Jvm.Cond.lays "ReluBounds" "ReluBounds" "waiting" "I") ∈ lw_all := lw_g (lw_at lw_m1 49 rfl) rfl
theorem q74 : (Jvm.Cond.soleField "ReluBounds" "waiting") ∈ lw_all := lw_g (lw_at lw_m1 50 rfl) rfl
theorem q75 : (Jvm.Cond.lays "ReluBounds" "ReluBounds" "best" "I") ∈ lw_all := lw_g (lw_at lw_m1 51 rfl) rfl
theorem q76 : (Jvm.Cond.soleField "ReluBounds" "best") ∈ lw_all := lw_g (lw_at lw_m1 52 rfl) rfl
theorem q77 : (Jvm.Cond.superclass "ReluBounds" "java/lang/Object") ∈ lw_all := lw_g (lw_at lw_m1 53 rfl) rfl
theorem q81 : (Jvm.Cond.instanceMethod ({ cls := "ReluBounds", name := "set", desc := "(II)I" } : Jvm.MethodName)) ∈ lw_all := lw_g (lw_at lw_m1 57 rfl) rfl
theorem q82 : (Jvm.Cond.selects "ReluBounds" ({ cls := "ReluBounds", name := "set", desc := "(II)I" } : Jvm.MethodName) ({ cls := "ReluBounds", name := "set", desc := "(II)I" } : Jvm.MethodName)) ∈ lw_all := lw_g (lw_at lw_m1 58 rfl) rfl
theorem q83 : (Jvm.Cond.code ({ cls := "ReluBounds", name := "set", desc := "(II)I" } : Jvm.MethodName) prog_1_method_2_code (5 : Nat) (Option.some Jvm.ClassFile.FieldType.int)) ∈ lw_all := lw_g (lw_at lw_m1 59 rfl) rfl
theorem q84 : (Jvm.Cond.methodLink "ReluBounds" (51 : Nat) ({ cls := "ReluBounds", name := "isOffset", desc := "(I)Z" } : Jvm.MethodName)) ∈ lw_all := lw_g (lw_at lw_m1 60 rfl) rfl
theorem q85 : (Jvm.Cond.static ({ cls := "ReluBounds", name := "isOffset", desc := "(I)Z" } : Jvm.MethodName)) ∈ lw_all := lw_g (lw_at lw_m1 61 rfl) rfl
theorem q86 : (Jvm.Cond.code ({ cls := "ReluBounds", name := "isOffset", desc := "(I)Z" } : Jvm.MethodName) prog_1_method_15_code (1 : Nat) (Option.some Jvm.ClassFile.FieldType.boolean)) ∈ lw_all := lw_g (lw_at lw_m1 62 rfl) rfl
theorem q88 : (Jvm.Cond.instanceMethod ({ cls := "ReluBounds", name := "sow", desc := "(II)I" } : Jvm.MethodName)) ∈ lw_all := lw_g (lw_at lw_m1 64 rfl) rfl
theorem q89 : (Jvm.Cond.selects "ReluBounds" ({ cls := "ReluBounds", name := "sow", desc := "(II)I" } : Jvm.MethodName) ({ cls := "ReluBounds", name := "sow", desc := "(II)I" } : Jvm.MethodName)) ∈ lw_all := lw_g (lw_at lw_m1 65 rfl) rfl
theorem q90 : (Jvm.Cond.code ({ cls := "ReluBounds", name := "sow", desc := "(II)I" } : Jvm.MethodName) prog_1_method_3_code (6 : Nat) (Option.some Jvm.ClassFile.FieldType.int)) ∈ lw_all := lw_g (lw_at lw_m1 66 rfl) rfl
theorem q92 : (Jvm.Cond.instanceMethod ({ cls := "ReluBounds", name := "get", desc := "(I)I" } : Jvm.MethodName)) ∈ lw_all := lw_g (lw_at lw_m1 68 rfl) rfl
theorem q93 : (Jvm.Cond.selects "ReluBounds" ({ cls := "ReluBounds", name := "get", desc := "(I)I" } : Jvm.MethodName) ({ cls := "ReluBounds", name := "get", desc := "(I)I" } : Jvm.MethodName)) ∈ lw_all := lw_g (lw_at lw_m1 69 rfl) rfl
theorem q94 : (Jvm.Cond.code ({ cls := "ReluBounds", name := "get", desc := "(I)I" } : Jvm.MethodName) prog_1_method_4_code (2 : Nat) (Option.some Jvm.ClassFile.FieldType.int)) ∈ lw_all := lw_g (lw_at lw_m1 70 rfl) rfl
theorem q96 : (Jvm.Cond.instanceMethod ({ cls := "ReluBounds", name := "result", desc := "(II)I" } : Jvm.MethodName)) ∈ lw_all := lw_g (lw_at lw_m1 72 rfl) rfl
theorem q97 : (Jvm.Cond.selects "ReluBounds" ({ cls := "ReluBounds", name := "result", desc := "(II)I" } : Jvm.MethodName) ({ cls := "ReluBounds", name := "result", desc := "(II)I" } : Jvm.MethodName)) ∈ lw_all := lw_g (lw_at lw_m1 73 rfl) rfl
theorem q98 : (Jvm.Cond.code ({ cls := "ReluBounds", name := "result", desc := "(II)I" } : Jvm.MethodName) prog_1_method_5_code (3 : Nat) (Option.some Jvm.ClassFile.FieldType.int)) ∈ lw_all := lw_g (lw_at lw_m1 74 rfl) rfl
theorem q99 : (Jvm.Cond.methodLink "ReluBounds" (55 : Nat) ({ cls := "ReluBounds", name := "isInput", desc := "(I)Z" } : Jvm.MethodName)) ∈ lw_all := lw_g (lw_at lw_m1 75 rfl) rfl
theorem q100 : (Jvm.Cond.static ({ cls := "ReluBounds", name := "isInput", desc := "(I)Z" } : Jvm.MethodName)) ∈ lw_all := lw_g (lw_at lw_m1 76 rfl) rfl
theorem q101 : (Jvm.Cond.code ({ cls := "ReluBounds", name := "isInput", desc := "(I)Z" } : Jvm.MethodName) prog_1_method_16_code (1 : Nat) (Option.some Jvm.ClassFile.FieldType.boolean)) ∈ lw_all := lw_g (lw_at lw_m1 77 rfl) rfl
theorem q102 : (Jvm.Cond.constant "ReluBounds" (58 : Nat) (-1000000 : Int32)) ∈ lw_all := lw_g (lw_at lw_m1 78 rfl) rfl
theorem q103 : (Jvm.Cond.methodLink "ReluBounds" (59 : Nat) ({ cls := "ReluBounds", name := "work", desc := "(II)V" } : Jvm.MethodName)) ∈ lw_all := lw_g (lw_at lw_m1 79 rfl) rfl
theorem q104 : (Jvm.Cond.privateMethod ({ cls := "ReluBounds", name := "work", desc := "(II)V" } : Jvm.MethodName)) ∈ lw_tbl := lw_at lw_m1 80 rfl
theorem q105 : (Jvm.Cond.instanceMethod ({ cls := "ReluBounds", name := "work", desc := "(II)V" } : Jvm.MethodName)) ∈ lw_all := lw_g (lw_at lw_m1 81 rfl) rfl
theorem q106 : (Jvm.Cond.code ({ cls := "ReluBounds", name := "work", desc := "(II)V" } : Jvm.MethodName) prog_1_method_19_code (6 : Nat) (Option.none : Option Jvm.ClassFile.FieldType)) ∈ lw_all := lw_g (lw_at lw_m1 82 rfl) rfl
theorem q108 : (Jvm.Cond.instanceMethod ({ cls := "ReluBounds", name := "unit", desc := "(III)I" } : Jvm.MethodName)) ∈ lw_all := lw_g (lw_at lw_m1 84 rfl) rfl
theorem q109 : (Jvm.Cond.selects "ReluBounds" ({ cls := "ReluBounds", name := "unit", desc := "(III)I" } : Jvm.MethodName) ({ cls := "ReluBounds", name := "unit", desc := "(III)I" } : Jvm.MethodName)) ∈ lw_all := lw_g (lw_at lw_m1 85 rfl) rfl
theorem q110 : (Jvm.Cond.code ({ cls := "ReluBounds", name := "unit", desc := "(III)I" } : Jvm.MethodName) prog_1_method_6_code (4 : Nat) (Option.some Jvm.ClassFile.FieldType.int)) ∈ lw_all := lw_g (lw_at lw_m1 86 rfl) rfl
theorem q112 : (Jvm.Cond.instanceMethod ({ cls := "ReluBounds", name := "most", desc := "(II)I" } : Jvm.MethodName)) ∈ lw_all := lw_g (lw_at lw_m1 88 rfl) rfl
theorem q113 : (Jvm.Cond.selects "ReluBounds" ({ cls := "ReluBounds", name := "most", desc := "(II)I" } : Jvm.MethodName) ({ cls := "ReluBounds", name := "most", desc := "(II)I" } : Jvm.MethodName)) ∈ lw_all := lw_g (lw_at lw_m1 89 rfl) rfl
theorem q114 : (Jvm.Cond.code ({ cls := "ReluBounds", name := "most", desc := "(II)I" } : Jvm.MethodName) prog_1_method_7_code (3 : Nat) (Option.some Jvm.ClassFile.FieldType.int)) ∈ lw_all := lw_g (lw_at lw_m1 90 rfl) rfl
theorem q115 : (Jvm.Cond.methodLink "ReluBounds" (63 : Nat) ({ cls := "ReluBounds", name := "isInterval", desc := "(I)Z" } : Jvm.MethodName)) ∈ lw_all := lw_g (lw_at lw_m1 91 rfl) rfl
theorem q116 : (Jvm.Cond.static ({ cls := "ReluBounds", name := "isInterval", desc := "(I)Z" } : Jvm.MethodName)) ∈ lw_all := lw_g (lw_at lw_m1 92 rfl) rfl
theorem q117 : (Jvm.Cond.code ({ cls := "ReluBounds", name := "isInterval", desc := "(I)Z" } : Jvm.MethodName) prog_1_method_17_code (1 : Nat) (Option.some Jvm.ClassFile.FieldType.boolean)) ∈ lw_all := lw_g (lw_at lw_m1 93 rfl) rfl
theorem q118 : (Jvm.Cond.methodLink "ReluBounds" (66 : Nat) ({ cls := "ReluBounds", name := "extreme", desc := "(IIII)I" } : Jvm.MethodName)) ∈ lw_all := lw_g (lw_at lw_m1 94 rfl) rfl
theorem q119 : (Jvm.Cond.privateMethod ({ cls := "ReluBounds", name := "extreme", desc := "(IIII)I" } : Jvm.MethodName)) ∈ lw_tbl := lw_at lw_m1 95 rfl
theorem q120 : (Jvm.Cond.instanceMethod ({ cls := "ReluBounds", name := "extreme", desc := "(IIII)I" } : Jvm.MethodName)) ∈ lw_all := lw_g (lw_at lw_m1 96 rfl) rfl
theorem q121 : (Jvm.Cond.code ({ cls := "ReluBounds", name := "extreme", desc := "(IIII)I" } : Jvm.MethodName) prog_1_method_28_code (8 : Nat) (Option.some Jvm.ClassFile.FieldType.int)) ∈ lw_all := lw_g (lw_at lw_m1 97 rfl) rfl
theorem q122 : (Jvm.Cond.methodLink "ReluBounds" (78 : Nat) ({ cls := "ReluBounds", name := "open", desc := "(II)V" } : Jvm.MethodName)) ∈ lw_all := lw_g (lw_at lw_m1 98 rfl) rfl
theorem q123 : (Jvm.Cond.privateMethod ({ cls := "ReluBounds", name := "open", desc := "(II)V" } : Jvm.MethodName)) ∈ lw_tbl := lw_at lw_m1 99 rfl
theorem q124 : (Jvm.Cond.instanceMethod ({ cls := "ReluBounds", name := "open", desc := "(II)V" } : Jvm.MethodName)) ∈ lw_all := lw_g (lw_at lw_m1 100 rfl) rfl
theorem q125 : (Jvm.Cond.code ({ cls := "ReluBounds", name := "open", desc := "(II)V" } : Jvm.MethodName) prog_1_method_25_code (3 : Nat) (Option.none : Option Jvm.ClassFile.FieldType)) ∈ lw_all := lw_g (lw_at lw_m1 101 rfl) rfl
theorem q126 : (Jvm.Cond.methodLink "ReluBounds" (81 : Nat) ({ cls := "ReluBounds", name := "range", desc := "(IIII)V" } : Jvm.MethodName)) ∈ lw_all := lw_g (lw_at lw_m1 102 rfl) rfl
theorem q127 : (Jvm.Cond.privateMethod ({ cls := "ReluBounds", name := "range", desc := "(IIII)V" } : Jvm.MethodName)) ∈ lw_tbl := lw_at lw_m1 103 rfl
theorem q128 : (Jvm.Cond.instanceMethod ({ cls := "ReluBounds", name := "range", desc := "(IIII)V" } : Jvm.MethodName)) ∈ lw_all := lw_g (lw_at lw_m1 104 rfl) rfl
theorem q129 : (Jvm.Cond.code ({ cls := "ReluBounds", name := "range", desc := "(IIII)V" } : Jvm.MethodName) prog_1_method_20_code (7 : Nat) (Option.none : Option Jvm.ClassFile.FieldType)) ∈ lw_all := lw_g (lw_at lw_m1 105 rfl) rfl
theorem q130 : (Jvm.Cond.methodLink "ReluBounds" (93 : Nat) ({ cls := "ReluBounds", name := "exact", desc := "(IIIII)V" } : Jvm.MethodName)) ∈ lw_all := lw_g (lw_at lw_m1 106 rfl) rfl
theorem q131 : (Jvm.Cond.privateMethod ({ cls := "ReluBounds", name := "exact", desc := "(IIIII)V" } : Jvm.MethodName)) ∈ lw_tbl := lw_at lw_m1 107 rfl
theorem q132 : (Jvm.Cond.instanceMethod ({ cls := "ReluBounds", name := "exact", desc := "(IIIII)V" } : Jvm.MethodName)) ∈ lw_all := lw_g (lw_at lw_m1 108 rfl) rfl
theorem q133 : (Jvm.Cond.code ({ cls := "ReluBounds", name := "exact", desc := "(IIIII)V" } : Jvm.MethodName) prog_1_method_24_code (8 : Nat) (Option.none : Option Jvm.ClassFile.FieldType)) ∈ lw_all := lw_g (lw_at lw_m1 109 rfl) rfl
theorem q134 : (Jvm.Cond.methodLink "ReluBounds" (97 : Nat) ({ cls := "ReluBounds", name := "begin", desc := "(II)V" } : Jvm.MethodName)) ∈ lw_all := lw_g (lw_at lw_m1 110 rfl) rfl
theorem q135 : (Jvm.Cond.privateMethod ({ cls := "ReluBounds", name := "begin", desc := "(II)V" } : Jvm.MethodName)) ∈ lw_tbl := lw_at lw_m1 111 rfl
theorem q136 : (Jvm.Cond.instanceMethod ({ cls := "ReluBounds", name := "begin", desc := "(II)V" } : Jvm.MethodName)) ∈ lw_all := lw_g (lw_at lw_m1 112 rfl) rfl
theorem q137 : (Jvm.Cond.code ({ cls := "ReluBounds", name := "begin", desc := "(II)V" } : Jvm.MethodName) prog_1_method_21_code (3 : Nat) (Option.none : Option Jvm.ClassFile.FieldType)) ∈ lw_all := lw_g (lw_at lw_m1 113 rfl) rfl
theorem q138 : (Jvm.Cond.methodLink "ReluBounds" (100 : Nat) ({ cls := "ReluBounds", name := "bring", desc := "(III)V" } : Jvm.MethodName)) ∈ lw_all := lw_g (lw_at lw_m1 114 rfl) rfl
theorem q139 : (Jvm.Cond.privateMethod ({ cls := "ReluBounds", name := "bring", desc := "(III)V" } : Jvm.MethodName)) ∈ lw_tbl := lw_at lw_m1 115 rfl
theorem q140 : (Jvm.Cond.instanceMethod ({ cls := "ReluBounds", name := "bring", desc := "(III)V" } : Jvm.MethodName)) ∈ lw_all := lw_g (lw_at lw_m1 116 rfl) rfl
theorem q141 : (Jvm.Cond.code ({ cls := "ReluBounds", name := "bring", desc := "(III)V" } : Jvm.MethodName) prog_1_method_22_code (6 : Nat) (Option.none : Option Jvm.ClassFile.FieldType)) ∈ lw_all := lw_g (lw_at lw_m1 117 rfl) rfl
theorem q142 : (Jvm.Cond.methodLink "ReluBounds" (104 : Nat) ({ cls := "ReluBounds", name := "finish", desc := "(IIIII)V" } : Jvm.MethodName)) ∈ lw_all := lw_g (lw_at lw_m1 118 rfl) rfl
theorem q143 : (Jvm.Cond.privateMethod ({ cls := "ReluBounds", name := "finish", desc := "(IIIII)V" } : Jvm.MethodName)) ∈ lw_tbl := lw_at lw_m1 119 rfl
theorem q144 : (Jvm.Cond.instanceMethod ({ cls := "ReluBounds", name := "finish", desc := "(IIIII)V" } : Jvm.MethodName)) ∈ lw_all := lw_g (lw_at lw_m1 120 rfl) rfl
theorem q145 : (Jvm.Cond.code ({ cls := "ReluBounds", name := "finish", desc := "(IIIII)V" } : Jvm.MethodName) prog_1_method_23_code (8 : Nat) (Option.none : Option Jvm.ClassFile.FieldType)) ∈ lw_all := lw_g (lw_at lw_m1 121 rfl) rfl
theorem q146 : (Jvm.Cond.methodLink "ReluBounds" (110 : Nat) ({ cls := "ReluBounds", name := "isPoint", desc := "(I)Z" } : Jvm.MethodName)) ∈ lw_all := lw_g (lw_at lw_m1 122 rfl) rfl
theorem q147 : (Jvm.Cond.privateMethod ({ cls := "ReluBounds", name := "isPoint", desc := "(I)Z" } : Jvm.MethodName)) ∈ lw_tbl := lw_at lw_m1 123 rfl
theorem q148 : (Jvm.Cond.instanceMethod ({ cls := "ReluBounds", name := "isPoint", desc := "(I)Z" } : Jvm.MethodName)) ∈ lw_all := lw_g (lw_at lw_m1 124 rfl) rfl
theorem q149 : (Jvm.Cond.code ({ cls := "ReluBounds", name := "isPoint", desc := "(I)Z" } : Jvm.MethodName) prog_1_method_27_code (2 : Nat) (Option.some Jvm.ClassFile.FieldType.boolean)) ∈ lw_all := lw_g (lw_at lw_m1 125 rfl) rfl
theorem q150 : (Jvm.Cond.methodLink "ReluBounds" (89 : Nat) ({ cls := "ReluBounds", name := "cut", desc := "(I)V" } : Jvm.MethodName)) ∈ lw_all := lw_g (lw_at lw_m1 126 rfl) rfl
theorem q151 : (Jvm.Cond.privateMethod ({ cls := "ReluBounds", name := "cut", desc := "(I)V" } : Jvm.MethodName)) ∈ lw_tbl := lw_at lw_m1 127 rfl
theorem q152 : (Jvm.Cond.instanceMethod ({ cls := "ReluBounds", name := "cut", desc := "(I)V" } : Jvm.MethodName)) ∈ lw_all := lw_g (lw_at lw_m1 128 rfl) rfl
theorem q153 : (Jvm.Cond.code ({ cls := "ReluBounds", name := "cut", desc := "(I)V" } : Jvm.MethodName) prog_1_method_26_code (6 : Nat) (Option.none : Option Jvm.ClassFile.FieldType)) ∈ lw_all := lw_g (lw_at lw_m1 129 rfl) rfl
theorem q155 : (Jvm.Cond.instanceMethod ({ cls := "ReluBounds", name := "least", desc := "(II)I" } : Jvm.MethodName)) ∈ lw_all := lw_g (lw_at lw_m1 131 rfl) rfl
theorem q156 : (Jvm.Cond.selects "ReluBounds" ({ cls := "ReluBounds", name := "least", desc := "(II)I" } : Jvm.MethodName) ({ cls := "ReluBounds", name := "least", desc := "(II)I" } : Jvm.MethodName)) ∈ lw_all := lw_g (lw_at lw_m1 132 rfl) rfl
theorem q157 : (Jvm.Cond.code ({ cls := "ReluBounds", name := "least", desc := "(II)I" } : Jvm.MethodName) prog_1_method_8_code (3 : Nat) (Option.some Jvm.ClassFile.FieldType.int)) ∈ lw_all := lw_g (lw_at lw_m1 133 rfl) rfl
theorem q159 : (Jvm.Cond.instanceMethod ({ cls := "ReluBounds", name := "mostAt", desc := "(II)I" } : Jvm.MethodName)) ∈ lw_all := lw_g (lw_at lw_m1 135 rfl) rfl
theorem q160 : (Jvm.Cond.selects "ReluBounds" ({ cls := "ReluBounds", name := "mostAt", desc := "(II)I" } : Jvm.MethodName) ({ cls := "ReluBounds", name := "mostAt", desc := "(II)I" } : Jvm.MethodName)) ∈ lw_all := lw_g (lw_at lw_m1 136 rfl) rfl
theorem q161 : (Jvm.Cond.code ({ cls := "ReluBounds", name := "mostAt", desc := "(II)I" } : Jvm.MethodName) prog_1_method_9_code (4 : Nat) (Option.some Jvm.ClassFile.FieldType.int)) ∈ lw_all := lw_g (lw_at lw_m1 137 rfl) rfl
theorem q162 : (Jvm.Cond.methodLink "ReluBounds" (70 : Nat) ({ cls := "ReluBounds", name := "firstAbove", desc := "(III)I" } : Jvm.MethodName)) ∈ lw_all := lw_g (lw_at lw_m1 138 rfl) rfl
theorem q163 : (Jvm.Cond.privateMethod ({ cls := "ReluBounds", name := "firstAbove", desc := "(III)I" } : Jvm.MethodName)) ∈ lw_tbl := lw_at lw_m1 139 rfl
theorem q164 : (Jvm.Cond.instanceMethod ({ cls := "ReluBounds", name := "firstAbove", desc := "(III)I" } : Jvm.MethodName)) ∈ lw_all := lw_g (lw_at lw_m1 140 rfl) rfl
theorem q165 : (Jvm.Cond.code ({ cls := "ReluBounds", name := "firstAbove", desc := "(III)I" } : Jvm.MethodName) prog_1_method_29_code (6 : Nat) (Option.some Jvm.ClassFile.FieldType.int)) ∈ lw_all := lw_g (lw_at lw_m1 141 rfl) rfl
theorem q167 : (Jvm.Cond.instanceMethod ({ cls := "ReluBounds", name := "safe", desc := "(III)I" } : Jvm.MethodName)) ∈ lw_all := lw_g (lw_at lw_m1 143 rfl) rfl
theorem q168 : (Jvm.Cond.selects "ReluBounds" ({ cls := "ReluBounds", name := "safe", desc := "(III)I" } : Jvm.MethodName) ({ cls := "ReluBounds", name := "safe", desc := "(III)I" } : Jvm.MethodName)) ∈ lw_all := lw_g (lw_at lw_m1 144 rfl) rfl
theorem q169 : (Jvm.Cond.code ({ cls := "ReluBounds", name := "safe", desc := "(III)I" } : Jvm.MethodName) prog_1_method_10_code (4 : Nat) (Option.some Jvm.ClassFile.FieldType.int)) ∈ lw_all := lw_g (lw_at lw_m1 145 rfl) rfl
theorem q171 : (Jvm.Cond.instanceMethod ({ cls := "ReluBounds", name := "breach", desc := "(III)I" } : Jvm.MethodName)) ∈ lw_all := lw_g (lw_at lw_m1 147 rfl) rfl
theorem q172 : (Jvm.Cond.selects "ReluBounds" ({ cls := "ReluBounds", name := "breach", desc := "(III)I" } : Jvm.MethodName) ({ cls := "ReluBounds", name := "breach", desc := "(III)I" } : Jvm.MethodName)) ∈ lw_all := lw_g (lw_at lw_m1 148 rfl) rfl
theorem q173 : (Jvm.Cond.code ({ cls := "ReluBounds", name := "breach", desc := "(III)I" } : Jvm.MethodName) prog_1_method_11_code (4 : Nat) (Option.some Jvm.ClassFile.FieldType.int)) ∈ lw_all := lw_g (lw_at lw_m1 149 rfl) rfl
theorem q175 : (Jvm.Cond.instanceMethod ({ cls := "ReluBounds", name := "fixed", desc := "(III)I" } : Jvm.MethodName)) ∈ lw_all := lw_g (lw_at lw_m1 151 rfl) rfl
theorem q176 : (Jvm.Cond.selects "ReluBounds" ({ cls := "ReluBounds", name := "fixed", desc := "(III)I" } : Jvm.MethodName) ({ cls := "ReluBounds", name := "fixed", desc := "(III)I" } : Jvm.MethodName)) ∈ lw_all := lw_g (lw_at lw_m1 152 rfl) rfl
theorem q177 : (Jvm.Cond.code ({ cls := "ReluBounds", name := "fixed", desc := "(III)I" } : Jvm.MethodName) prog_1_method_12_code (6 : Nat) (Option.some Jvm.ClassFile.FieldType.int)) ∈ lw_all := lw_g (lw_at lw_m1 153 rfl) rfl
theorem q179 : (Jvm.Cond.instanceMethod ({ cls := "ReluBounds", name := "radius", desc := "(III)I" } : Jvm.MethodName)) ∈ lw_all := lw_g (lw_at lw_m1 155 rfl) rfl
theorem q180 : (Jvm.Cond.selects "ReluBounds" ({ cls := "ReluBounds", name := "radius", desc := "(III)I" } : Jvm.MethodName) ({ cls := "ReluBounds", name := "radius", desc := "(III)I" } : Jvm.MethodName)) ∈ lw_all := lw_g (lw_at lw_m1 156 rfl) rfl
theorem q181 : (Jvm.Cond.code ({ cls := "ReluBounds", name := "radius", desc := "(III)I" } : Jvm.MethodName) prog_1_method_13_code (10 : Nat) (Option.some Jvm.ClassFile.FieldType.int)) ∈ lw_all := lw_g (lw_at lw_m1 157 rfl) rfl
theorem q182 : (Jvm.Cond.methodLink "ReluBounds" (74 : Nat) ({ cls := "ReluBounds", name := "around", desc := "(II)I" } : Jvm.MethodName)) ∈ lw_all := lw_g (lw_at lw_m1 158 rfl) rfl
theorem q183 : (Jvm.Cond.static ({ cls := "ReluBounds", name := "around", desc := "(II)I" } : Jvm.MethodName)) ∈ lw_all := lw_g (lw_at lw_m1 159 rfl) rfl
theorem q184 : (Jvm.Cond.code ({ cls := "ReluBounds", name := "around", desc := "(II)I" } : Jvm.MethodName) prog_1_method_18_code (4 : Nat) (Option.some Jvm.ClassFile.FieldType.int)) ∈ lw_all := lw_g (lw_at lw_m1 160 rfl) rfl
theorem q186 : (Jvm.Cond.instanceMethod ({ cls := "ReluBounds", name := "patterns", desc := "(II)I" } : Jvm.MethodName)) ∈ lw_all := lw_g (lw_at lw_m1 162 rfl) rfl
theorem q187 : (Jvm.Cond.selects "ReluBounds" ({ cls := "ReluBounds", name := "patterns", desc := "(II)I" } : Jvm.MethodName) ({ cls := "ReluBounds", name := "patterns", desc := "(II)I" } : Jvm.MethodName)) ∈ lw_all := lw_g (lw_at lw_m1 163 rfl) rfl
theorem q188 : (Jvm.Cond.code ({ cls := "ReluBounds", name := "patterns", desc := "(II)I" } : Jvm.MethodName) prog_1_method_14_code (7 : Nat) (Option.some Jvm.ClassFile.FieldType.int)) ∈ lw_all := lw_g (lw_at lw_m1 164 rfl) rfl
theorem q189 : (Jvm.Cond.methodLink "ReluBounds" (85 : Nat) ({ cls := "ReluBounds", name := "patternOf", desc := "()I" } : Jvm.MethodName)) ∈ lw_all := lw_g (lw_at lw_m1 165 rfl) rfl
theorem q190 : (Jvm.Cond.privateMethod ({ cls := "ReluBounds", name := "patternOf", desc := "()I" } : Jvm.MethodName)) ∈ lw_tbl := lw_at lw_m1 166 rfl
theorem q191 : (Jvm.Cond.instanceMethod ({ cls := "ReluBounds", name := "patternOf", desc := "()I" } : Jvm.MethodName)) ∈ lw_all := lw_g (lw_at lw_m1 167 rfl) rfl
theorem q192 : (Jvm.Cond.code ({ cls := "ReluBounds", name := "patternOf", desc := "()I" } : Jvm.MethodName) prog_1_method_30_code (3 : Nat) (Option.some Jvm.ClassFile.FieldType.int)) ∈ lw_all := lw_g (lw_at lw_m1 168 rfl) rfl
theorem in_X0 : ∀ w ∈ wsX00, w ∈ lw_all := lw_in wsX00 [49, 51, 53, 55, 57, 59, 61, 63, 65, 67, 69, 71, 73, 75] (by decide +kernel) (by decide +kernel)

/-! ReluBoundsModel -/
set_option maxRecDepth 100000
def RX1 : String := "ReluBoundsModel"
def TX1 : u_T := fun k => match k with
  | 0 => ("ReluBoundsModel", "numbers", "[I", false)
  | 1 => ("ReluBoundsModel", "low0", "I", false)
  | 2 => ("ReluBoundsModel", "high0", "I", false)
  | 3 => ("ReluBoundsModel", "low1", "I", false)
  | _ => ("ReluBoundsModel", "high1", "I", false)
def tyX1 : Nat → FieldType := fun k => match k with
  | 0 => .array .int
  | 1 => .int
  | 2 => .int
  | 3 => .int
  | _ => .int
abbrev wsX10 : List Cond := u_ws RX1 TX1 5
theorem nmX1 : ∀ a, a < 5 → ∀ b, b < 5 → a ≠ b → (TX1 a).2.1 ≠ (TX1 b).2.1 := by decide +kernel
theorem tyX1_ok : ∀ k, k < 5 → parseFieldDescriptor (TX1 k).2.2.1 = some (tyX1 k) := by decide +kernel
abbrev cX1_init : ByteArray := prog_3_method_1_code
def yX1_init : MethodName := ⟨RX1, "<init>", "()V"⟩
abbrev cX1_set : ByteArray := prog_3_method_3_code
def yX1_set : MethodName := ⟨RX1, "set", "(II)I"⟩
abbrev cX1_offset : ByteArray := prog_3_method_2_code
def yX1_offset : MethodName := ⟨RX1, "offset", "(I)Z"⟩
abbrev cX1_sow : ByteArray := prog_3_method_4_code
def yX1_sow : MethodName := ⟨RX1, "sow", "(II)I"⟩
abbrev cX1_get : ByteArray := prog_3_method_5_code
def yX1_get : MethodName := ⟨RX1, "get", "(I)I"⟩
abbrev cX1_result : ByteArray := prog_3_method_11_code
def yX1_result : MethodName := ⟨RX1, "result", "(II)I"⟩
abbrev cX1_bad : ByteArray := prog_3_method_10_code
def yX1_bad : MethodName := ⟨RX1, "bad", "(I)Z"⟩
abbrev cX1_given : ByteArray := prog_3_method_9_code
def yX1_given : MethodName := ⟨RX1, "given", "(II)I"⟩
abbrev cX1_outer : ByteArray := prog_3_method_8_code
def yX1_outer : MethodName := ⟨RX1, "outer", "(III)I"⟩
abbrev cX1_inner : ByteArray := prog_3_method_7_code
def yX1_inner : MethodName := ⟨RX1, "inner", "(III)I"⟩
abbrev cX1_clip : ByteArray := prog_3_method_6_code
def yX1_clip : MethodName := ⟨RX1, "clip", "(I)I"⟩
abbrev cX1_unit : ByteArray := prog_3_method_13_code
def yX1_unit : MethodName := ⟨RX1, "unit", "(III)I"⟩
abbrev cX1_unitGiven : ByteArray := prog_3_method_12_code
def yX1_unitGiven : MethodName := ⟨RX1, "unitGiven", "(III)I"⟩
abbrev cX1_most : ByteArray := prog_3_method_17_code
def yX1_most : MethodName := ⟨RX1, "most", "(II)I"⟩
abbrev cX1_take : ByteArray := prog_3_method_15_code
def yX1_take : MethodName := ⟨RX1, "take", "(II)Z"⟩
abbrev cX1_badInterval : ByteArray := prog_3_method_14_code
def yX1_badInterval : MethodName := ⟨RX1, "badInterval", "(I)Z"⟩
abbrev cX1_extreme : ByteArray := prog_3_method_16_code
def yX1_extreme : MethodName := ⟨RX1, "extreme", "(I)I"⟩
abbrev cX1_least : ByteArray := prog_3_method_18_code
def yX1_least : MethodName := ⟨RX1, "least", "(II)I"⟩
abbrev cX1_mostAt : ByteArray := prog_3_method_20_code
def yX1_mostAt : MethodName := ⟨RX1, "mostAt", "(II)I"⟩
abbrev cX1_above : ByteArray := prog_3_method_19_code
def yX1_above : MethodName := ⟨RX1, "above", "(I)I"⟩
abbrev cX1_safe : ByteArray := prog_3_method_21_code
def yX1_safe : MethodName := ⟨RX1, "safe", "(III)I"⟩
abbrev cX1_breach : ByteArray := prog_3_method_22_code
def yX1_breach : MethodName := ⟨RX1, "breach", "(III)I"⟩
abbrev cX1_fixed : ByteArray := prog_3_method_23_code
def yX1_fixed : MethodName := ⟨RX1, "fixed", "(III)I"⟩
abbrev cX1_radius : ByteArray := prog_3_method_24_code
def yX1_radius : MethodName := ⟨RX1, "radius", "(III)I"⟩
abbrev cX1_patterns : ByteArray := prog_3_method_26_code
def yX1_patterns : MethodName := ⟨RX1, "patterns", "(II)I"⟩
abbrev cX1_marks : ByteArray := prog_3_method_25_code
def yX1_marks : MethodName := ⟨RX1, "marks", "(II)I"⟩
theorem q26 : (Jvm.Cond.initialized "ReluBoundsModel") ∈ lw_all := lw_g (lw_at lw_m1 2 rfl) rfl
theorem q194 : (Jvm.Cond.instantiable "ReluBoundsModel" (5 : Nat)) ∈ lw_all := lw_g (lw_at lw_m1 170 rfl) rfl
theorem q196 : (Jvm.Cond.instanceMethod ({ cls := "ReluBoundsModel", name := "<init>", desc := "()V" } : Jvm.MethodName)) ∈ lw_all := lw_g (lw_at lw_m1 172 rfl) rfl
theorem q197 : (Jvm.Cond.code ({ cls := "ReluBoundsModel", name := "<init>", desc := "()V" } : Jvm.MethodName) prog_3_method_1_code (1 : Nat) (Option.none : Option Jvm.ClassFile.FieldType)) ∈ lw_all := lw_g (lw_at lw_m1 173 rfl) rfl
theorem q198 : (Jvm.Cond.methodLink "ReluBoundsModel" (1 : Nat) ({ cls := "java/lang/Object", name := "<init>", desc := "()V" } : Jvm.MethodName)) ∈ lw_all := lw_g (lw_at lw_m1 174 rfl) rfl
theorem q199 : (Jvm.Cond.fieldLink "ReluBoundsModel" (7 : Nat) "ReluBoundsModel" "numbers" "[I") ∈ lw_all := lw_g (lw_at lw_m1 175 rfl) rfl
theorem q200 : (Jvm.Cond.fieldLink "ReluBoundsModel" (42 : Nat) "ReluBoundsModel" "low0" "I") ∈ lw_all := lw_g (lw_at lw_m1 176 rfl) rfl
theorem q201 : (Jvm.Cond.fieldLink "ReluBoundsModel" (46 : Nat) "ReluBoundsModel" "high0" "I") ∈ lw_all := lw_g (lw_at lw_m1 177 rfl) rfl
theorem q202 : (Jvm.Cond.fieldLink "ReluBoundsModel" (49 : Nat) "ReluBoundsModel" "low1" "I") ∈ lw_all := lw_g (lw_at lw_m1 178 rfl) rfl
theorem q203 : (Jvm.Cond.fieldLink "ReluBoundsModel" (52 : Nat) "ReluBoundsModel" "high1" "I") ∈ lw_all := lw_g (lw_at lw_m1 179 rfl) rfl
theorem q204 : (Jvm.Cond.lays "ReluBoundsModel" "ReluBoundsModel" "numbers" "[I") ∈ lw_all := lw_g (lw_at lw_m1 180 rfl) rfl
theorem q205 : (Jvm.Cond.soleField "ReluBoundsModel" "numbers") ∈ lw_all := lw_g (lw_at lw_m1 181 rfl) rfl
theorem q206 : (Jvm.Cond.lays "ReluBoundsModel" "ReluBoundsModel" "low0" "I") ∈ lw_all := lw_g (lw_at lw_m1 182 rfl) rfl
theorem q207 : (Jvm.Cond.soleField "ReluBoundsModel" "low0") ∈ lw_all := lw_g (lw_at lw_m1 183 rfl) rfl
theorem q208 : (Jvm.Cond.lays "ReluBoundsModel" "ReluBoundsModel" "high0" "I") ∈ lw_all := lw_g (lw_at lw_m1 184 rfl) rfl
theorem q209 : (Jvm.Cond.soleField "ReluBoundsModel" "high0") ∈ lw_all := lw_g (lw_at lw_m1 185 rfl) rfl
theorem q210 : (Jvm.Cond.lays "ReluBoundsModel" "ReluBoundsModel" "low1" "I") ∈ lw_all := lw_g (lw_at lw_m1 186 rfl) rfl
theorem q211 : (Jvm.Cond.soleField "ReluBoundsModel" "low1") ∈ lw_all := lw_g (lw_at lw_m1 187 rfl) rfl
theorem q212 : (Jvm.Cond.lays "ReluBoundsModel" "ReluBoundsModel" "high1" "I") ∈ lw_all := lw_g (lw_at lw_m1 188 rfl) rfl
theorem q213 : (Jvm.Cond.soleField "ReluBoundsModel" "high1") ∈ lw_all := lw_g (lw_at lw_m1 189 rfl) rfl
theorem q214 : (Jvm.Cond.superclass "ReluBoundsModel" "java/lang/Object") ∈ lw_all := lw_g (lw_at lw_m1 190 rfl) rfl
theorem q216 : (Jvm.Cond.instanceMethod ({ cls := "ReluBoundsModel", name := "set", desc := "(II)I" } : Jvm.MethodName)) ∈ lw_all := lw_g (lw_at lw_m1 192 rfl) rfl
theorem q217 : (Jvm.Cond.selects "ReluBoundsModel" ({ cls := "ReluBoundsModel", name := "set", desc := "(II)I" } : Jvm.MethodName) ({ cls := "ReluBoundsModel", name := "set", desc := "(II)I" } : Jvm.MethodName)) ∈ lw_all := lw_g (lw_at lw_m1 193 rfl) rfl
theorem q218 : (Jvm.Cond.code ({ cls := "ReluBoundsModel", name := "set", desc := "(II)I" } : Jvm.MethodName) prog_3_method_3_code (5 : Nat) (Option.some Jvm.ClassFile.FieldType.int)) ∈ lw_all := lw_g (lw_at lw_m1 194 rfl) rfl
theorem q219 : (Jvm.Cond.methodLink "ReluBoundsModel" (13 : Nat) ({ cls := "ReluBoundsModel", name := "offset", desc := "(I)Z" } : Jvm.MethodName)) ∈ lw_all := lw_g (lw_at lw_m1 195 rfl) rfl
theorem q220 : (Jvm.Cond.privateMethod ({ cls := "ReluBoundsModel", name := "offset", desc := "(I)Z" } : Jvm.MethodName)) ∈ lw_tbl := lw_at lw_m1 196 rfl
theorem q221 : (Jvm.Cond.instanceMethod ({ cls := "ReluBoundsModel", name := "offset", desc := "(I)Z" } : Jvm.MethodName)) ∈ lw_all := lw_g (lw_at lw_m1 197 rfl) rfl
theorem q222 : (Jvm.Cond.code ({ cls := "ReluBoundsModel", name := "offset", desc := "(I)Z" } : Jvm.MethodName) prog_3_method_2_code (2 : Nat) (Option.some Jvm.ClassFile.FieldType.boolean)) ∈ lw_all := lw_g (lw_at lw_m1 198 rfl) rfl
theorem q224 : (Jvm.Cond.instanceMethod ({ cls := "ReluBoundsModel", name := "sow", desc := "(II)I" } : Jvm.MethodName)) ∈ lw_all := lw_g (lw_at lw_m1 200 rfl) rfl
theorem q225 : (Jvm.Cond.selects "ReluBoundsModel" ({ cls := "ReluBoundsModel", name := "sow", desc := "(II)I" } : Jvm.MethodName) ({ cls := "ReluBoundsModel", name := "sow", desc := "(II)I" } : Jvm.MethodName)) ∈ lw_all := lw_g (lw_at lw_m1 201 rfl) rfl
theorem q226 : (Jvm.Cond.code ({ cls := "ReluBoundsModel", name := "sow", desc := "(II)I" } : Jvm.MethodName) prog_3_method_4_code (4 : Nat) (Option.some Jvm.ClassFile.FieldType.int)) ∈ lw_all := lw_g (lw_at lw_m1 202 rfl) rfl
theorem q228 : (Jvm.Cond.instanceMethod ({ cls := "ReluBoundsModel", name := "get", desc := "(I)I" } : Jvm.MethodName)) ∈ lw_all := lw_g (lw_at lw_m1 204 rfl) rfl
theorem q229 : (Jvm.Cond.selects "ReluBoundsModel" ({ cls := "ReluBoundsModel", name := "get", desc := "(I)I" } : Jvm.MethodName) ({ cls := "ReluBoundsModel", name := "get", desc := "(I)I" } : Jvm.MethodName)) ∈ lw_all := lw_g (lw_at lw_m1 205 rfl) rfl
theorem q230 : (Jvm.Cond.code ({ cls := "ReluBoundsModel", name := "get", desc := "(I)I" } : Jvm.MethodName) prog_3_method_5_code (2 : Nat) (Option.some Jvm.ClassFile.FieldType.int)) ∈ lw_all := lw_g (lw_at lw_m1 206 rfl) rfl
theorem q232 : (Jvm.Cond.instanceMethod ({ cls := "ReluBoundsModel", name := "result", desc := "(II)I" } : Jvm.MethodName)) ∈ lw_all := lw_g (lw_at lw_m1 208 rfl) rfl
theorem q233 : (Jvm.Cond.selects "ReluBoundsModel" ({ cls := "ReluBoundsModel", name := "result", desc := "(II)I" } : Jvm.MethodName) ({ cls := "ReluBoundsModel", name := "result", desc := "(II)I" } : Jvm.MethodName)) ∈ lw_all := lw_g (lw_at lw_m1 209 rfl) rfl
theorem q234 : (Jvm.Cond.code ({ cls := "ReluBoundsModel", name := "result", desc := "(II)I" } : Jvm.MethodName) prog_3_method_11_code (3 : Nat) (Option.some Jvm.ClassFile.FieldType.int)) ∈ lw_all := lw_g (lw_at lw_m1 210 rfl) rfl
theorem q235 : (Jvm.Cond.methodLink "ReluBoundsModel" (28 : Nat) ({ cls := "ReluBoundsModel", name := "bad", desc := "(I)Z" } : Jvm.MethodName)) ∈ lw_all := lw_g (lw_at lw_m1 211 rfl) rfl
theorem q236 : (Jvm.Cond.privateMethod ({ cls := "ReluBoundsModel", name := "bad", desc := "(I)Z" } : Jvm.MethodName)) ∈ lw_tbl := lw_at lw_m1 212 rfl
theorem q237 : (Jvm.Cond.instanceMethod ({ cls := "ReluBoundsModel", name := "bad", desc := "(I)Z" } : Jvm.MethodName)) ∈ lw_all := lw_g (lw_at lw_m1 213 rfl) rfl
theorem q238 : (Jvm.Cond.code ({ cls := "ReluBoundsModel", name := "bad", desc := "(I)Z" } : Jvm.MethodName) prog_3_method_10_code (2 : Nat) (Option.some Jvm.ClassFile.FieldType.boolean)) ∈ lw_all := lw_g (lw_at lw_m1 214 rfl) rfl
theorem q239 : (Jvm.Cond.constant "ReluBoundsModel" (31 : Nat) (-1000000 : Int32)) ∈ lw_all := lw_g (lw_at lw_m1 215 rfl) rfl
theorem q240 : (Jvm.Cond.methodLink "ReluBoundsModel" (32 : Nat) ({ cls := "ReluBoundsModel", name := "given", desc := "(II)I" } : Jvm.MethodName)) ∈ lw_all := lw_g (lw_at lw_m1 216 rfl) rfl
theorem q241 : (Jvm.Cond.privateMethod ({ cls := "ReluBoundsModel", name := "given", desc := "(II)I" } : Jvm.MethodName)) ∈ lw_tbl := lw_at lw_m1 217 rfl
theorem q242 : (Jvm.Cond.instanceMethod ({ cls := "ReluBoundsModel", name := "given", desc := "(II)I" } : Jvm.MethodName)) ∈ lw_all := lw_g (lw_at lw_m1 218 rfl) rfl
theorem q243 : (Jvm.Cond.code ({ cls := "ReluBoundsModel", name := "given", desc := "(II)I" } : Jvm.MethodName) prog_3_method_9_code (3 : Nat) (Option.some Jvm.ClassFile.FieldType.int)) ∈ lw_all := lw_g (lw_at lw_m1 219 rfl) rfl
theorem q244 : (Jvm.Cond.methodLink "ReluBoundsModel" (25 : Nat) ({ cls := "ReluBoundsModel", name := "outer", desc := "(III)I" } : Jvm.MethodName)) ∈ lw_all := lw_g (lw_at lw_m1 220 rfl) rfl
theorem q245 : (Jvm.Cond.privateMethod ({ cls := "ReluBoundsModel", name := "outer", desc := "(III)I" } : Jvm.MethodName)) ∈ lw_tbl := lw_at lw_m1 221 rfl
theorem q246 : (Jvm.Cond.instanceMethod ({ cls := "ReluBoundsModel", name := "outer", desc := "(III)I" } : Jvm.MethodName)) ∈ lw_all := lw_g (lw_at lw_m1 222 rfl) rfl
theorem q247 : (Jvm.Cond.code ({ cls := "ReluBoundsModel", name := "outer", desc := "(III)I" } : Jvm.MethodName) prog_3_method_8_code (6 : Nat) (Option.some Jvm.ClassFile.FieldType.int)) ∈ lw_all := lw_g (lw_at lw_m1 223 rfl) rfl
theorem q248 : (Jvm.Cond.methodLink "ReluBoundsModel" (21 : Nat) ({ cls := "ReluBoundsModel", name := "inner", desc := "(III)I" } : Jvm.MethodName)) ∈ lw_all := lw_g (lw_at lw_m1 224 rfl) rfl
theorem q249 : (Jvm.Cond.privateMethod ({ cls := "ReluBoundsModel", name := "inner", desc := "(III)I" } : Jvm.MethodName)) ∈ lw_tbl := lw_at lw_m1 225 rfl
theorem q250 : (Jvm.Cond.instanceMethod ({ cls := "ReluBoundsModel", name := "inner", desc := "(III)I" } : Jvm.MethodName)) ∈ lw_all := lw_g (lw_at lw_m1 226 rfl) rfl
theorem q251 : (Jvm.Cond.code ({ cls := "ReluBoundsModel", name := "inner", desc := "(III)I" } : Jvm.MethodName) prog_3_method_7_code (4 : Nat) (Option.some Jvm.ClassFile.FieldType.int)) ∈ lw_all := lw_g (lw_at lw_m1 227 rfl) rfl
theorem q252 : (Jvm.Cond.methodLink "ReluBoundsModel" (17 : Nat) ({ cls := "ReluBoundsModel", name := "clip", desc := "(I)I" } : Jvm.MethodName)) ∈ lw_all := lw_g (lw_at lw_m1 228 rfl) rfl
theorem q253 : (Jvm.Cond.privateMethod ({ cls := "ReluBoundsModel", name := "clip", desc := "(I)I" } : Jvm.MethodName)) ∈ lw_tbl := lw_at lw_m1 229 rfl
theorem q254 : (Jvm.Cond.instanceMethod ({ cls := "ReluBoundsModel", name := "clip", desc := "(I)I" } : Jvm.MethodName)) ∈ lw_all := lw_g (lw_at lw_m1 230 rfl) rfl
theorem q255 : (Jvm.Cond.code ({ cls := "ReluBoundsModel", name := "clip", desc := "(I)I" } : Jvm.MethodName) prog_3_method_6_code (2 : Nat) (Option.some Jvm.ClassFile.FieldType.int)) ∈ lw_all := lw_g (lw_at lw_m1 231 rfl) rfl
theorem q257 : (Jvm.Cond.instanceMethod ({ cls := "ReluBoundsModel", name := "unit", desc := "(III)I" } : Jvm.MethodName)) ∈ lw_all := lw_g (lw_at lw_m1 233 rfl) rfl
theorem q258 : (Jvm.Cond.selects "ReluBoundsModel" ({ cls := "ReluBoundsModel", name := "unit", desc := "(III)I" } : Jvm.MethodName) ({ cls := "ReluBoundsModel", name := "unit", desc := "(III)I" } : Jvm.MethodName)) ∈ lw_all := lw_g (lw_at lw_m1 234 rfl) rfl
theorem q259 : (Jvm.Cond.code ({ cls := "ReluBoundsModel", name := "unit", desc := "(III)I" } : Jvm.MethodName) prog_3_method_13_code (4 : Nat) (Option.some Jvm.ClassFile.FieldType.int)) ∈ lw_all := lw_g (lw_at lw_m1 235 rfl) rfl
theorem q260 : (Jvm.Cond.methodLink "ReluBoundsModel" (36 : Nat) ({ cls := "ReluBoundsModel", name := "unitGiven", desc := "(III)I" } : Jvm.MethodName)) ∈ lw_all := lw_g (lw_at lw_m1 236 rfl) rfl
theorem q261 : (Jvm.Cond.privateMethod ({ cls := "ReluBoundsModel", name := "unitGiven", desc := "(III)I" } : Jvm.MethodName)) ∈ lw_tbl := lw_at lw_m1 237 rfl
theorem q262 : (Jvm.Cond.instanceMethod ({ cls := "ReluBoundsModel", name := "unitGiven", desc := "(III)I" } : Jvm.MethodName)) ∈ lw_all := lw_g (lw_at lw_m1 238 rfl) rfl
theorem q263 : (Jvm.Cond.code ({ cls := "ReluBoundsModel", name := "unitGiven", desc := "(III)I" } : Jvm.MethodName) prog_3_method_12_code (4 : Nat) (Option.some Jvm.ClassFile.FieldType.int)) ∈ lw_all := lw_g (lw_at lw_m1 239 rfl) rfl
theorem q265 : (Jvm.Cond.instanceMethod ({ cls := "ReluBoundsModel", name := "most", desc := "(II)I" } : Jvm.MethodName)) ∈ lw_all := lw_g (lw_at lw_m2 1 rfl) rfl
theorem q266 : (Jvm.Cond.selects "ReluBoundsModel" ({ cls := "ReluBoundsModel", name := "most", desc := "(II)I" } : Jvm.MethodName) ({ cls := "ReluBoundsModel", name := "most", desc := "(II)I" } : Jvm.MethodName)) ∈ lw_all := lw_g (lw_at lw_m2 2 rfl) rfl
theorem q267 : (Jvm.Cond.code ({ cls := "ReluBoundsModel", name := "most", desc := "(II)I" } : Jvm.MethodName) prog_3_method_17_code (3 : Nat) (Option.some Jvm.ClassFile.FieldType.int)) ∈ lw_all := lw_g (lw_at lw_m2 3 rfl) rfl
theorem q268 : (Jvm.Cond.methodLink "ReluBoundsModel" (55 : Nat) ({ cls := "ReluBoundsModel", name := "take", desc := "(II)Z" } : Jvm.MethodName)) ∈ lw_all := lw_g (lw_at lw_m2 4 rfl) rfl
theorem q269 : (Jvm.Cond.privateMethod ({ cls := "ReluBoundsModel", name := "take", desc := "(II)Z" } : Jvm.MethodName)) ∈ lw_tbl := lw_at lw_m2 5 rfl
theorem q270 : (Jvm.Cond.instanceMethod ({ cls := "ReluBoundsModel", name := "take", desc := "(II)Z" } : Jvm.MethodName)) ∈ lw_all := lw_g (lw_at lw_m2 6 rfl) rfl
theorem q271 : (Jvm.Cond.code ({ cls := "ReluBoundsModel", name := "take", desc := "(II)Z" } : Jvm.MethodName) prog_3_method_15_code (3 : Nat) (Option.some Jvm.ClassFile.FieldType.boolean)) ∈ lw_all := lw_g (lw_at lw_m2 7 rfl) rfl
theorem q272 : (Jvm.Cond.methodLink "ReluBoundsModel" (39 : Nat) ({ cls := "ReluBoundsModel", name := "badInterval", desc := "(I)Z" } : Jvm.MethodName)) ∈ lw_all := lw_g (lw_at lw_m2 8 rfl) rfl
theorem q273 : (Jvm.Cond.privateMethod ({ cls := "ReluBoundsModel", name := "badInterval", desc := "(I)Z" } : Jvm.MethodName)) ∈ lw_tbl := lw_at lw_m2 9 rfl
theorem q274 : (Jvm.Cond.instanceMethod ({ cls := "ReluBoundsModel", name := "badInterval", desc := "(I)Z" } : Jvm.MethodName)) ∈ lw_all := lw_g (lw_at lw_m2 10 rfl) rfl
theorem q275 : (Jvm.Cond.code ({ cls := "ReluBoundsModel", name := "badInterval", desc := "(I)Z" } : Jvm.MethodName) prog_3_method_14_code (2 : Nat) (Option.some Jvm.ClassFile.FieldType.boolean)) ∈ lw_all := lw_g (lw_at lw_m2 11 rfl) rfl
theorem q276 : (Jvm.Cond.methodLink "ReluBoundsModel" (59 : Nat) ({ cls := "ReluBoundsModel", name := "extreme", desc := "(I)I" } : Jvm.MethodName)) ∈ lw_all := lw_g (lw_at lw_m2 12 rfl) rfl
theorem q277 : (Jvm.Cond.privateMethod ({ cls := "ReluBoundsModel", name := "extreme", desc := "(I)I" } : Jvm.MethodName)) ∈ lw_tbl := lw_at lw_m2 13 rfl
theorem q278 : (Jvm.Cond.instanceMethod ({ cls := "ReluBoundsModel", name := "extreme", desc := "(I)I" } : Jvm.MethodName)) ∈ lw_all := lw_g (lw_at lw_m2 14 rfl) rfl
theorem q279 : (Jvm.Cond.code ({ cls := "ReluBoundsModel", name := "extreme", desc := "(I)I" } : Jvm.MethodName) prog_3_method_16_code (6 : Nat) (Option.some Jvm.ClassFile.FieldType.int)) ∈ lw_all := lw_g (lw_at lw_m2 15 rfl) rfl
theorem q281 : (Jvm.Cond.instanceMethod ({ cls := "ReluBoundsModel", name := "least", desc := "(II)I" } : Jvm.MethodName)) ∈ lw_all := lw_g (lw_at lw_m2 17 rfl) rfl
theorem q282 : (Jvm.Cond.selects "ReluBoundsModel" ({ cls := "ReluBoundsModel", name := "least", desc := "(II)I" } : Jvm.MethodName) ({ cls := "ReluBoundsModel", name := "least", desc := "(II)I" } : Jvm.MethodName)) ∈ lw_all := lw_g (lw_at lw_m2 18 rfl) rfl
theorem q283 : (Jvm.Cond.code ({ cls := "ReluBoundsModel", name := "least", desc := "(II)I" } : Jvm.MethodName) prog_3_method_18_code (3 : Nat) (Option.some Jvm.ClassFile.FieldType.int)) ∈ lw_all := lw_g (lw_at lw_m2 19 rfl) rfl
theorem q285 : (Jvm.Cond.instanceMethod ({ cls := "ReluBoundsModel", name := "mostAt", desc := "(II)I" } : Jvm.MethodName)) ∈ lw_all := lw_g (lw_at lw_m2 21 rfl) rfl
theorem q286 : (Jvm.Cond.selects "ReluBoundsModel" ({ cls := "ReluBoundsModel", name := "mostAt", desc := "(II)I" } : Jvm.MethodName) ({ cls := "ReluBoundsModel", name := "mostAt", desc := "(II)I" } : Jvm.MethodName)) ∈ lw_all := lw_g (lw_at lw_m2 22 rfl) rfl
theorem q287 : (Jvm.Cond.code ({ cls := "ReluBoundsModel", name := "mostAt", desc := "(II)I" } : Jvm.MethodName) prog_3_method_20_code (4 : Nat) (Option.some Jvm.ClassFile.FieldType.int)) ∈ lw_all := lw_g (lw_at lw_m2 23 rfl) rfl
theorem q288 : (Jvm.Cond.methodLink "ReluBoundsModel" (62 : Nat) ({ cls := "ReluBoundsModel", name := "above", desc := "(I)I" } : Jvm.MethodName)) ∈ lw_all := lw_g (lw_at lw_m2 24 rfl) rfl
theorem q289 : (Jvm.Cond.privateMethod ({ cls := "ReluBoundsModel", name := "above", desc := "(I)I" } : Jvm.MethodName)) ∈ lw_tbl := lw_at lw_m2 25 rfl
theorem q290 : (Jvm.Cond.instanceMethod ({ cls := "ReluBoundsModel", name := "above", desc := "(I)I" } : Jvm.MethodName)) ∈ lw_all := lw_g (lw_at lw_m2 26 rfl) rfl
theorem q291 : (Jvm.Cond.code ({ cls := "ReluBoundsModel", name := "above", desc := "(I)I" } : Jvm.MethodName) prog_3_method_19_code (4 : Nat) (Option.some Jvm.ClassFile.FieldType.int)) ∈ lw_all := lw_g (lw_at lw_m2 27 rfl) rfl
theorem q293 : (Jvm.Cond.instanceMethod ({ cls := "ReluBoundsModel", name := "safe", desc := "(III)I" } : Jvm.MethodName)) ∈ lw_all := lw_g (lw_at lw_m2 29 rfl) rfl
theorem q294 : (Jvm.Cond.selects "ReluBoundsModel" ({ cls := "ReluBoundsModel", name := "safe", desc := "(III)I" } : Jvm.MethodName) ({ cls := "ReluBoundsModel", name := "safe", desc := "(III)I" } : Jvm.MethodName)) ∈ lw_all := lw_g (lw_at lw_m2 30 rfl) rfl
theorem q295 : (Jvm.Cond.code ({ cls := "ReluBoundsModel", name := "safe", desc := "(III)I" } : Jvm.MethodName) prog_3_method_21_code (4 : Nat) (Option.some Jvm.ClassFile.FieldType.int)) ∈ lw_all := lw_g (lw_at lw_m2 31 rfl) rfl
theorem q297 : (Jvm.Cond.instanceMethod ({ cls := "ReluBoundsModel", name := "breach", desc := "(III)I" } : Jvm.MethodName)) ∈ lw_all := lw_g (lw_at lw_m2 33 rfl) rfl
theorem q298 : (Jvm.Cond.selects "ReluBoundsModel" ({ cls := "ReluBoundsModel", name := "breach", desc := "(III)I" } : Jvm.MethodName) ({ cls := "ReluBoundsModel", name := "breach", desc := "(III)I" } : Jvm.MethodName)) ∈ lw_all := lw_g (lw_at lw_m2 34 rfl) rfl
theorem q299 : (Jvm.Cond.code ({ cls := "ReluBoundsModel", name := "breach", desc := "(III)I" } : Jvm.MethodName) prog_3_method_22_code (4 : Nat) (Option.some Jvm.ClassFile.FieldType.int)) ∈ lw_all := lw_g (lw_at lw_m2 35 rfl) rfl
theorem q301 : (Jvm.Cond.instanceMethod ({ cls := "ReluBoundsModel", name := "fixed", desc := "(III)I" } : Jvm.MethodName)) ∈ lw_all := lw_g (lw_at lw_m2 37 rfl) rfl
theorem q302 : (Jvm.Cond.selects "ReluBoundsModel" ({ cls := "ReluBoundsModel", name := "fixed", desc := "(III)I" } : Jvm.MethodName) ({ cls := "ReluBoundsModel", name := "fixed", desc := "(III)I" } : Jvm.MethodName)) ∈ lw_all := lw_g (lw_at lw_m2 38 rfl) rfl
theorem q303 : (Jvm.Cond.code ({ cls := "ReluBoundsModel", name := "fixed", desc := "(III)I" } : Jvm.MethodName) prog_3_method_23_code (8 : Nat) (Option.some Jvm.ClassFile.FieldType.int)) ∈ lw_all := lw_g (lw_at lw_m2 39 rfl) rfl
theorem q305 : (Jvm.Cond.instanceMethod ({ cls := "ReluBoundsModel", name := "radius", desc := "(III)I" } : Jvm.MethodName)) ∈ lw_all := lw_g (lw_at lw_m2 41 rfl) rfl
theorem q306 : (Jvm.Cond.selects "ReluBoundsModel" ({ cls := "ReluBoundsModel", name := "radius", desc := "(III)I" } : Jvm.MethodName) ({ cls := "ReluBoundsModel", name := "radius", desc := "(III)I" } : Jvm.MethodName)) ∈ lw_all := lw_g (lw_at lw_m2 42 rfl) rfl
theorem q307 : (Jvm.Cond.code ({ cls := "ReluBoundsModel", name := "radius", desc := "(III)I" } : Jvm.MethodName) prog_3_method_24_code (5 : Nat) (Option.some Jvm.ClassFile.FieldType.int)) ∈ lw_all := lw_g (lw_at lw_m2 43 rfl) rfl
theorem q309 : (Jvm.Cond.instanceMethod ({ cls := "ReluBoundsModel", name := "patterns", desc := "(II)I" } : Jvm.MethodName)) ∈ lw_all := lw_g (lw_at lw_m2 45 rfl) rfl
theorem q310 : (Jvm.Cond.selects "ReluBoundsModel" ({ cls := "ReluBoundsModel", name := "patterns", desc := "(II)I" } : Jvm.MethodName) ({ cls := "ReluBoundsModel", name := "patterns", desc := "(II)I" } : Jvm.MethodName)) ∈ lw_all := lw_g (lw_at lw_m2 46 rfl) rfl
theorem q311 : (Jvm.Cond.code ({ cls := "ReluBoundsModel", name := "patterns", desc := "(II)I" } : Jvm.MethodName) prog_3_method_26_code (6 : Nat) (Option.some Jvm.ClassFile.FieldType.int)) ∈ lw_all := lw_g (lw_at lw_m2 47 rfl) rfl
theorem q312 : (Jvm.Cond.methodLink "ReluBoundsModel" (65 : Nat) ({ cls := "ReluBoundsModel", name := "marks", desc := "(II)I" } : Jvm.MethodName)) ∈ lw_all := lw_g (lw_at lw_m2 48 rfl) rfl
theorem q313 : (Jvm.Cond.privateMethod ({ cls := "ReluBoundsModel", name := "marks", desc := "(II)I" } : Jvm.MethodName)) ∈ lw_tbl := lw_at lw_m2 49 rfl
theorem q314 : (Jvm.Cond.instanceMethod ({ cls := "ReluBoundsModel", name := "marks", desc := "(II)I" } : Jvm.MethodName)) ∈ lw_all := lw_g (lw_at lw_m2 50 rfl) rfl
theorem q315 : (Jvm.Cond.code ({ cls := "ReluBoundsModel", name := "marks", desc := "(II)I" } : Jvm.MethodName) prog_3_method_25_code (5 : Nat) (Option.some Jvm.ClassFile.FieldType.int)) ∈ lw_all := lw_g (lw_at lw_m2 51 rfl) rfl
theorem in_X1 : ∀ w ∈ wsX10, w ∈ lw_all := lw_in wsX10 [204, 206, 208, 210, 212] (by decide +kernel) (by decide +kernel)

/-! java/lang/Object -/
set_option maxRecDepth 100000
def RJ0 : String := "java/lang/Object"
abbrev cJ0_init : ByteArray := object_method_1_code
def yJ0_init : MethodName := ⟨RJ0, "<init>", "()V"⟩
theorem dJ0_init_0 : decode cJ0_init 0 = .ok (.return_, 1) := by decide +kernel
theorem q33 : (Jvm.Cond.instanceMethod ({ cls := "java/lang/Object", name := "<init>", desc := "()V" } : Jvm.MethodName)) ∈ lw_all := lw_g (lw_at lw_m1 9 rfl) rfl
theorem q34 : (Jvm.Cond.code ({ cls := "java/lang/Object", name := "<init>", desc := "()V" } : Jvm.MethodName) object_method_1_code (1 : Nat) (Option.none : Option Jvm.ClassFile.FieldType)) ∈ lw_all := lw_g (lw_at lw_m1 10 rfl) rfl

theorem q78 : (Jvm.Cond.arrayClass Jvm.ClassFile.FieldType.int) ∈ lw_all := lw_g (lw_at lw_m1 54 rfl) rfl
set_option maxRecDepth 100000
theorem q79 : (Jvm.Cond.arrayClass Jvm.ClassFile.FieldType.boolean) ∈ lw_all := lw_g (lw_at lw_m1 55 rfl) rfl

theorem q24 : (Jvm.Cond.initialized "ReluBoundsLaw") ∈ lw_all := lw_g (lw_at lw_m1 0 rfl) rfl
set_option maxRecDepth 100000
theorem q27 : (Jvm.Cond.classLink "ReluBoundsLaw" (7 : Nat) "ReluBounds") ∈ lw_all := lw_g (lw_at lw_m1 3 rfl) rfl
theorem q29 : (Jvm.Cond.methodLink "ReluBoundsLaw" (9 : Nat) ({ cls := "ReluBounds", name := "<init>", desc := "()V" } : Jvm.MethodName)) ∈ lw_all := lw_g (lw_at lw_m1 5 rfl) rfl
theorem q80 : (Jvm.Cond.methodLink "ReluBoundsLaw" (13 : Nat) ({ cls := "ReluBounds", name := "set", desc := "(II)I" } : Jvm.MethodName)) ∈ lw_all := lw_g (lw_at lw_m1 56 rfl) rfl
theorem q87 : (Jvm.Cond.methodLink "ReluBoundsLaw" (18 : Nat) ({ cls := "ReluBounds", name := "sow", desc := "(II)I" } : Jvm.MethodName)) ∈ lw_all := lw_g (lw_at lw_m1 63 rfl) rfl
theorem q91 : (Jvm.Cond.methodLink "ReluBoundsLaw" (22 : Nat) ({ cls := "ReluBounds", name := "get", desc := "(I)I" } : Jvm.MethodName)) ∈ lw_all := lw_g (lw_at lw_m1 67 rfl) rfl
theorem q95 : (Jvm.Cond.methodLink "ReluBoundsLaw" (27 : Nat) ({ cls := "ReluBounds", name := "result", desc := "(II)I" } : Jvm.MethodName)) ∈ lw_all := lw_g (lw_at lw_m1 71 rfl) rfl
theorem q107 : (Jvm.Cond.methodLink "ReluBoundsLaw" (31 : Nat) ({ cls := "ReluBounds", name := "unit", desc := "(III)I" } : Jvm.MethodName)) ∈ lw_all := lw_g (lw_at lw_m1 83 rfl) rfl
theorem q111 : (Jvm.Cond.methodLink "ReluBoundsLaw" (36 : Nat) ({ cls := "ReluBounds", name := "most", desc := "(II)I" } : Jvm.MethodName)) ∈ lw_all := lw_g (lw_at lw_m1 87 rfl) rfl
theorem q154 : (Jvm.Cond.methodLink "ReluBoundsLaw" (40 : Nat) ({ cls := "ReluBounds", name := "least", desc := "(II)I" } : Jvm.MethodName)) ∈ lw_all := lw_g (lw_at lw_m1 130 rfl) rfl
theorem q158 : (Jvm.Cond.methodLink "ReluBoundsLaw" (44 : Nat) ({ cls := "ReluBounds", name := "mostAt", desc := "(II)I" } : Jvm.MethodName)) ∈ lw_all := lw_g (lw_at lw_m1 134 rfl) rfl
theorem q166 : (Jvm.Cond.methodLink "ReluBoundsLaw" (48 : Nat) ({ cls := "ReluBounds", name := "safe", desc := "(III)I" } : Jvm.MethodName)) ∈ lw_all := lw_g (lw_at lw_m1 142 rfl) rfl
theorem q170 : (Jvm.Cond.methodLink "ReluBoundsLaw" (52 : Nat) ({ cls := "ReluBounds", name := "breach", desc := "(III)I" } : Jvm.MethodName)) ∈ lw_all := lw_g (lw_at lw_m1 146 rfl) rfl
theorem q174 : (Jvm.Cond.methodLink "ReluBoundsLaw" (56 : Nat) ({ cls := "ReluBounds", name := "fixed", desc := "(III)I" } : Jvm.MethodName)) ∈ lw_all := lw_g (lw_at lw_m1 150 rfl) rfl
theorem q178 : (Jvm.Cond.methodLink "ReluBoundsLaw" (60 : Nat) ({ cls := "ReluBounds", name := "radius", desc := "(III)I" } : Jvm.MethodName)) ∈ lw_all := lw_g (lw_at lw_m1 154 rfl) rfl
theorem q185 : (Jvm.Cond.methodLink "ReluBoundsLaw" (64 : Nat) ({ cls := "ReluBounds", name := "patterns", desc := "(II)I" } : Jvm.MethodName)) ∈ lw_all := lw_g (lw_at lw_m1 161 rfl) rfl
theorem q193 : (Jvm.Cond.classLink "ReluBoundsLaw" (10 : Nat) "ReluBoundsModel") ∈ lw_all := lw_g (lw_at lw_m1 169 rfl) rfl
theorem q195 : (Jvm.Cond.methodLink "ReluBoundsLaw" (12 : Nat) ({ cls := "ReluBoundsModel", name := "<init>", desc := "()V" } : Jvm.MethodName)) ∈ lw_all := lw_g (lw_at lw_m1 171 rfl) rfl
theorem q215 : (Jvm.Cond.methodLink "ReluBoundsLaw" (17 : Nat) ({ cls := "ReluBoundsModel", name := "set", desc := "(II)I" } : Jvm.MethodName)) ∈ lw_all := lw_g (lw_at lw_m1 191 rfl) rfl
theorem q223 : (Jvm.Cond.methodLink "ReluBoundsLaw" (21 : Nat) ({ cls := "ReluBoundsModel", name := "sow", desc := "(II)I" } : Jvm.MethodName)) ∈ lw_all := lw_g (lw_at lw_m1 199 rfl) rfl
theorem q227 : (Jvm.Cond.methodLink "ReluBoundsLaw" (26 : Nat) ({ cls := "ReluBoundsModel", name := "get", desc := "(I)I" } : Jvm.MethodName)) ∈ lw_all := lw_g (lw_at lw_m1 203 rfl) rfl
theorem q231 : (Jvm.Cond.methodLink "ReluBoundsLaw" (30 : Nat) ({ cls := "ReluBoundsModel", name := "result", desc := "(II)I" } : Jvm.MethodName)) ∈ lw_all := lw_g (lw_at lw_m1 207 rfl) rfl
theorem q256 : (Jvm.Cond.methodLink "ReluBoundsLaw" (35 : Nat) ({ cls := "ReluBoundsModel", name := "unit", desc := "(III)I" } : Jvm.MethodName)) ∈ lw_all := lw_g (lw_at lw_m1 232 rfl) rfl
theorem q264 : (Jvm.Cond.methodLink "ReluBoundsLaw" (39 : Nat) ({ cls := "ReluBoundsModel", name := "most", desc := "(II)I" } : Jvm.MethodName)) ∈ lw_all := lw_g (lw_at lw_m2 0 rfl) rfl
theorem q280 : (Jvm.Cond.methodLink "ReluBoundsLaw" (43 : Nat) ({ cls := "ReluBoundsModel", name := "least", desc := "(II)I" } : Jvm.MethodName)) ∈ lw_all := lw_g (lw_at lw_m2 16 rfl) rfl
theorem q284 : (Jvm.Cond.methodLink "ReluBoundsLaw" (47 : Nat) ({ cls := "ReluBoundsModel", name := "mostAt", desc := "(II)I" } : Jvm.MethodName)) ∈ lw_all := lw_g (lw_at lw_m2 20 rfl) rfl
theorem q292 : (Jvm.Cond.methodLink "ReluBoundsLaw" (51 : Nat) ({ cls := "ReluBoundsModel", name := "safe", desc := "(III)I" } : Jvm.MethodName)) ∈ lw_all := lw_g (lw_at lw_m2 28 rfl) rfl
theorem q296 : (Jvm.Cond.methodLink "ReluBoundsLaw" (55 : Nat) ({ cls := "ReluBoundsModel", name := "breach", desc := "(III)I" } : Jvm.MethodName)) ∈ lw_all := lw_g (lw_at lw_m2 32 rfl) rfl
theorem q300 : (Jvm.Cond.methodLink "ReluBoundsLaw" (59 : Nat) ({ cls := "ReluBoundsModel", name := "fixed", desc := "(III)I" } : Jvm.MethodName)) ∈ lw_all := lw_g (lw_at lw_m2 36 rfl) rfl
theorem q304 : (Jvm.Cond.methodLink "ReluBoundsLaw" (63 : Nat) ({ cls := "ReluBoundsModel", name := "radius", desc := "(III)I" } : Jvm.MethodName)) ∈ lw_all := lw_g (lw_at lw_m2 40 rfl) rfl
theorem q308 : (Jvm.Cond.methodLink "ReluBoundsLaw" (67 : Nat) ({ cls := "ReluBoundsModel", name := "patterns", desc := "(II)I" } : Jvm.MethodName)) ∈ lw_all := lw_g (lw_at lw_m2 44 rfl) rfl
end
section
set_option maxRecDepth 100000
theorem dX0_init_0 : decode cX0_init 0 = .ok (.aload_n 0, 1) := by decide +kernel
theorem dX0_init_1 : decode cX0_init 1 = .ok (.invokespecial 1, 3) := by decide +kernel
theorem dX0_init_4 : decode cX0_init 4 = .ok (.aload_n 0, 1) := by decide +kernel
theorem dX0_init_5 : decode cX0_init 5 = .ok (.bipush 20, 2) := by decide +kernel
theorem dX0_init_7 : decode cX0_init 7 = .ok (.newarray .int, 2) := by decide +kernel
theorem dX0_init_9 : decode cX0_init 9 = .ok (.putfield 7, 3) := by decide +kernel
theorem dX0_init_12 : decode cX0_init 12 = .ok (.aload_n 0, 1) := by decide +kernel
theorem dX0_init_13 : decode cX0_init 13 = .ok (.bipush 6, 2) := by decide +kernel
theorem dX0_init_15 : decode cX0_init 15 = .ok (.newarray .int, 2) := by decide +kernel
theorem dX0_init_17 : decode cX0_init 17 = .ok (.putfield 13, 3) := by decide +kernel
theorem dX0_init_20 : decode cX0_init 20 = .ok (.aload_n 0, 1) := by decide +kernel
theorem dX0_init_21 : decode cX0_init 21 = .ok (.bipush 6, 2) := by decide +kernel
theorem dX0_init_23 : decode cX0_init 23 = .ok (.newarray .int, 2) := by decide +kernel
theorem dX0_init_25 : decode cX0_init 25 = .ok (.putfield 16, 3) := by decide +kernel
theorem dX0_init_28 : decode cX0_init 28 = .ok (.aload_n 0, 1) := by decide +kernel
theorem dX0_init_29 : decode cX0_init 29 = .ok (.bipush 6, 2) := by decide +kernel
theorem dX0_init_31 : decode cX0_init 31 = .ok (.newarray .int, 2) := by decide +kernel
theorem dX0_init_33 : decode cX0_init 33 = .ok (.putfield 19, 3) := by decide +kernel
theorem dX0_init_36 : decode cX0_init 36 = .ok (.aload_n 0, 1) := by decide +kernel
theorem dX0_init_37 : decode cX0_init 37 = .ok (.bipush 6, 2) := by decide +kernel
theorem dX0_init_39 : decode cX0_init 39 = .ok (.newarray .int, 2) := by decide +kernel
theorem dX0_init_41 : decode cX0_init 41 = .ok (.putfield 22, 3) := by decide +kernel
theorem dX0_init_44 : decode cX0_init 44 = .ok (.aload_n 0, 1) := by decide +kernel
theorem dX0_init_45 : decode cX0_init 45 = .ok (.bipush 6, 2) := by decide +kernel
theorem dX0_init_47 : decode cX0_init 47 = .ok (.newarray .int, 2) := by decide +kernel
theorem dX0_init_49 : decode cX0_init 49 = .ok (.putfield 25, 3) := by decide +kernel
theorem dX0_init_52 : decode cX0_init 52 = .ok (.aload_n 0, 1) := by decide +kernel
theorem dX0_init_53 : decode cX0_init 53 = .ok (.bipush 6, 2) := by decide +kernel
theorem dX0_init_55 : decode cX0_init 55 = .ok (.newarray .int, 2) := by decide +kernel
theorem dX0_init_57 : decode cX0_init 57 = .ok (.putfield 28, 3) := by decide +kernel
theorem dX0_init_60 : decode cX0_init 60 = .ok (.aload_n 0, 1) := by decide +kernel
theorem dX0_init_61 : decode cX0_init 61 = .ok (.bipush 6, 2) := by decide +kernel
theorem dX0_init_63 : decode cX0_init 63 = .ok (.newarray .boolean, 2) := by decide +kernel
theorem dX0_init_65 : decode cX0_init 65 = .ok (.putfield 31, 3) := by decide +kernel
theorem dX0_init_68 : decode cX0_init 68 = .ok (.aload_n 0, 1) := by decide +kernel
theorem dX0_init_69 : decode cX0_init 69 = .ok (.bipush 16, 2) := by decide +kernel
theorem dX0_init_71 : decode cX0_init 71 = .ok (.newarray .int, 2) := by decide +kernel
theorem dX0_init_73 : decode cX0_init 73 = .ok (.putfield 35, 3) := by decide +kernel
theorem dX0_init_76 : decode cX0_init 76 = .ok (.aload_n 0, 1) := by decide +kernel
theorem dX0_init_77 : decode cX0_init 77 = .ok (.bipush 16, 2) := by decide +kernel
theorem dX0_init_79 : decode cX0_init 79 = .ok (.newarray .int, 2) := by decide +kernel
theorem dX0_init_81 : decode cX0_init 81 = .ok (.putfield 38, 3) := by decide +kernel
theorem dX0_init_84 : decode cX0_init 84 = .ok (.aload_n 0, 1) := by decide +kernel
theorem dX0_init_85 : decode cX0_init 85 = .ok (.bipush 16, 2) := by decide +kernel
theorem dX0_init_87 : decode cX0_init 87 = .ok (.newarray .int, 2) := by decide +kernel
theorem dX0_init_89 : decode cX0_init 89 = .ok (.putfield 41, 3) := by decide +kernel
theorem dX0_init_92 : decode cX0_init 92 = .ok (.aload_n 0, 1) := by decide +kernel
theorem dX0_init_93 : decode cX0_init 93 = .ok (.bipush 16, 2) := by decide +kernel
theorem dX0_init_95 : decode cX0_init 95 = .ok (.newarray .int, 2) := by decide +kernel
theorem dX0_init_97 : decode cX0_init 97 = .ok (.putfield 44, 3) := by decide +kernel
theorem dX0_init_100 : decode cX0_init 100 = .ok (.aload_n 0, 1) := by decide +kernel
theorem dX0_init_101 : decode cX0_init 101 = .ok (.iconst 0, 1) := by decide +kernel
theorem dX0_init_102 : decode cX0_init 102 = .ok (.putfield 47, 3) := by decide +kernel
theorem dX0_init_105 : decode cX0_init 105 = .ok (.return_, 1) := by decide +kernel
theorem dX0_set_0 : decode cX0_set 0 = .ok (.iload_n 1, 1) := by decide +kernel
theorem dX0_set_1 : decode cX0_set 1 = .ok (.ifCond .lt 9, 3) := by decide +kernel
theorem dX0_set_4 : decode cX0_set 4 = .ok (.iload_n 1, 1) := by decide +kernel
theorem dX0_set_5 : decode cX0_set 5 = .ok (.bipush 19, 2) := by decide +kernel
theorem dX0_set_7 : decode cX0_set 7 = .ok (.if_icmp .le 5, 3) := by decide +kernel
theorem dX0_set_10 : decode cX0_set 10 = .ok (.iconst (-1), 1) := by decide +kernel
theorem dX0_set_11 : decode cX0_set 11 = .ok (.ireturn, 1) := by decide +kernel
theorem dX0_set_12 : decode cX0_set 12 = .ok (.iload_n 1, 1) := by decide +kernel
theorem dX0_set_13 : decode cX0_set 13 = .ok (.invokestatic 51, 3) := by decide +kernel
theorem dX0_set_16 : decode cX0_set 16 = .ok (.ifCond .eq 8, 3) := by decide +kernel
theorem dX0_set_19 : decode cX0_set 19 = .ok (.bipush 50, 2) := by decide +kernel
theorem dX0_set_21 : decode cX0_set 21 = .ok (.goto 4, 3) := by decide +kernel
theorem dX0_set_24 : decode cX0_set 24 = .ok (.iconst 5, 1) := by decide +kernel
theorem dX0_set_25 : decode cX0_set 25 = .ok (.istore_n 3, 1) := by decide +kernel
theorem dX0_set_26 : decode cX0_set 26 = .ok (.iload_n 2, 1) := by decide +kernel
theorem dX0_set_27 : decode cX0_set 27 = .ok (.iload_n 3, 1) := by decide +kernel
theorem dX0_set_28 : decode cX0_set 28 = .ok (.ineg, 1) := by decide +kernel
theorem dX0_set_29 : decode cX0_set 29 = .ok (.if_icmp .lt 8, 3) := by decide +kernel
theorem dX0_set_32 : decode cX0_set 32 = .ok (.iload_n 2, 1) := by decide +kernel
theorem dX0_set_33 : decode cX0_set 33 = .ok (.iload_n 3, 1) := by decide +kernel
theorem dX0_set_34 : decode cX0_set 34 = .ok (.if_icmp .le 6, 3) := by decide +kernel
theorem dX0_set_37 : decode cX0_set 37 = .ok (.bipush (-2), 2) := by decide +kernel
theorem dX0_set_39 : decode cX0_set 39 = .ok (.ireturn, 1) := by decide +kernel
theorem dX0_set_40 : decode cX0_set 40 = .ok (.aload_n 0, 1) := by decide +kernel
theorem dX0_set_41 : decode cX0_set 41 = .ok (.getfield 7, 3) := by decide +kernel
theorem dX0_set_44 : decode cX0_set 44 = .ok (.iload_n 1, 1) := by decide +kernel
theorem dX0_set_45 : decode cX0_set 45 = .ok (.iaload, 1) := by decide +kernel
theorem dX0_set_46 : decode cX0_set 46 = .ok (.iload_n 2, 1) := by decide +kernel
theorem dX0_set_47 : decode cX0_set 47 = .ok (.if_icmp .eq 7, 3) := by decide +kernel
theorem dX0_set_50 : decode cX0_set 50 = .ok (.iconst 1, 1) := by decide +kernel
theorem dX0_set_51 : decode cX0_set 51 = .ok (.goto 4, 3) := by decide +kernel
theorem dX0_set_54 : decode cX0_set 54 = .ok (.iconst 0, 1) := by decide +kernel
theorem dX0_set_55 : decode cX0_set 55 = .ok (.istore 4, 2) := by decide +kernel
theorem dX0_set_57 : decode cX0_set 57 = .ok (.aload_n 0, 1) := by decide +kernel
theorem dX0_set_58 : decode cX0_set 58 = .ok (.getfield 7, 3) := by decide +kernel
theorem dX0_set_61 : decode cX0_set 61 = .ok (.iload_n 1, 1) := by decide +kernel
theorem dX0_set_62 : decode cX0_set 62 = .ok (.iload_n 2, 1) := by decide +kernel
theorem dX0_set_63 : decode cX0_set 63 = .ok (.iastore, 1) := by decide +kernel
theorem dX0_set_64 : decode cX0_set 64 = .ok (.iload 4, 2) := by decide +kernel
theorem dX0_set_66 : decode cX0_set 66 = .ok (.ireturn, 1) := by decide +kernel
theorem dX0_isOffset_0 : decode cX0_isOffset 0 = .ok (.iload_n 0, 1) := by decide +kernel
theorem dX0_isOffset_1 : decode cX0_isOffset 1 = .ok (.bipush 6, 2) := by decide +kernel
theorem dX0_isOffset_3 : decode cX0_isOffset 3 = .ok (.if_icmp .lt 9, 3) := by decide +kernel
theorem dX0_isOffset_6 : decode cX0_isOffset 6 = .ok (.iload_n 0, 1) := by decide +kernel
theorem dX0_isOffset_7 : decode cX0_isOffset 7 = .ok (.bipush 8, 2) := by decide +kernel
theorem dX0_isOffset_9 : decode cX0_isOffset 9 = .ok (.if_icmp .le 21, 3) := by decide +kernel
theorem dX0_isOffset_12 : decode cX0_isOffset 12 = .ok (.iload_n 0, 1) := by decide +kernel
theorem dX0_isOffset_13 : decode cX0_isOffset 13 = .ok (.bipush 15, 2) := by decide +kernel
theorem dX0_isOffset_15 : decode cX0_isOffset 15 = .ok (.if_icmp .eq 15, 3) := by decide +kernel
theorem dX0_isOffset_18 : decode cX0_isOffset 18 = .ok (.iload_n 0, 1) := by decide +kernel
theorem dX0_isOffset_19 : decode cX0_isOffset 19 = .ok (.bipush 16, 2) := by decide +kernel
theorem dX0_isOffset_21 : decode cX0_isOffset 21 = .ok (.if_icmp .eq 9, 3) := by decide +kernel
theorem dX0_isOffset_24 : decode cX0_isOffset 24 = .ok (.iload_n 0, 1) := by decide +kernel
theorem dX0_isOffset_25 : decode cX0_isOffset 25 = .ok (.bipush 19, 2) := by decide +kernel
theorem dX0_isOffset_27 : decode cX0_isOffset 27 = .ok (.if_icmp .ne 7, 3) := by decide +kernel
theorem dX0_isOffset_30 : decode cX0_isOffset 30 = .ok (.iconst 1, 1) := by decide +kernel
theorem dX0_isOffset_31 : decode cX0_isOffset 31 = .ok (.goto 4, 3) := by decide +kernel
theorem dX0_isOffset_34 : decode cX0_isOffset 34 = .ok (.iconst 0, 1) := by decide +kernel
theorem dX0_isOffset_35 : decode cX0_isOffset 35 = .ok (.ireturn, 1) := by decide +kernel
theorem dX0_sow_0 : decode cX0_sow 0 = .ok (.iload_n 1, 1) := by decide +kernel
theorem dX0_sow_1 : decode cX0_sow 1 = .ok (.ifCond .lt 9, 3) := by decide +kernel
theorem dX0_sow_4 : decode cX0_sow 4 = .ok (.iload_n 1, 1) := by decide +kernel
theorem dX0_sow_5 : decode cX0_sow 5 = .ok (.bipush 100, 2) := by decide +kernel
theorem dX0_sow_7 : decode cX0_sow 7 = .ok (.if_icmp .le 5, 3) := by decide +kernel
theorem dX0_sow_10 : decode cX0_sow 10 = .ok (.iconst (-1), 1) := by decide +kernel
theorem dX0_sow_11 : decode cX0_sow 11 = .ok (.ireturn, 1) := by decide +kernel
theorem dX0_sow_12 : decode cX0_sow 12 = .ok (.iload_n 2, 1) := by decide +kernel
theorem dX0_sow_13 : decode cX0_sow 13 = .ok (.ifCond .lt 9, 3) := by decide +kernel
theorem dX0_sow_16 : decode cX0_sow 16 = .ok (.iload_n 2, 1) := by decide +kernel
theorem dX0_sow_17 : decode cX0_sow 17 = .ok (.bipush 20, 2) := by decide +kernel
theorem dX0_sow_19 : decode cX0_sow 19 = .ok (.if_icmp .le 6, 3) := by decide +kernel
theorem dX0_sow_22 : decode cX0_sow 22 = .ok (.bipush (-2), 2) := by decide +kernel
theorem dX0_sow_24 : decode cX0_sow 24 = .ok (.ireturn, 1) := by decide +kernel
theorem dX0_sow_25 : decode cX0_sow 25 = .ok (.iconst 0, 1) := by decide +kernel
theorem dX0_sow_26 : decode cX0_sow 26 = .ok (.istore_n 3, 1) := by decide +kernel
theorem dX0_sow_27 : decode cX0_sow 27 = .ok (.iload_n 3, 1) := by decide +kernel
theorem dX0_sow_28 : decode cX0_sow 28 = .ok (.bipush 20, 2) := by decide +kernel
theorem dX0_sow_30 : decode cX0_sow 30 = .ok (.if_icmp .ge 67, 3) := by decide +kernel
theorem dX0_sow_33 : decode cX0_sow 33 = .ok (.iload_n 1, 1) := by decide +kernel
theorem dX0_sow_34 : decode cX0_sow 34 = .ok (.bipush 7, 2) := by decide +kernel
theorem dX0_sow_36 : decode cX0_sow 36 = .ok (.imul, 1) := by decide +kernel
theorem dX0_sow_37 : decode cX0_sow 37 = .ok (.iconst 5, 1) := by decide +kernel
theorem dX0_sow_38 : decode cX0_sow 38 = .ok (.iload_n 3, 1) := by decide +kernel
theorem dX0_sow_39 : decode cX0_sow 39 = .ok (.imul, 1) := by decide +kernel
theorem dX0_sow_40 : decode cX0_sow 40 = .ok (.iadd, 1) := by decide +kernel
theorem dX0_sow_41 : decode cX0_sow 41 = .ok (.iload_n 2, 1) := by decide +kernel
theorem dX0_sow_42 : decode cX0_sow 42 = .ok (.iload_n 3, 1) := by decide +kernel
theorem dX0_sow_43 : decode cX0_sow 43 = .ok (.imul, 1) := by decide +kernel
theorem dX0_sow_44 : decode cX0_sow 44 = .ok (.iadd, 1) := by decide +kernel
theorem dX0_sow_45 : decode cX0_sow 45 = .ok (.bipush 41, 2) := by decide +kernel
theorem dX0_sow_47 : decode cX0_sow 47 = .ok (.irem, 1) := by decide +kernel
theorem dX0_sow_48 : decode cX0_sow 48 = .ok (.bipush 20, 2) := by decide +kernel
theorem dX0_sow_50 : decode cX0_sow 50 = .ok (.isub, 1) := by decide +kernel
theorem dX0_sow_51 : decode cX0_sow 51 = .ok (.istore 4, 2) := by decide +kernel
theorem dX0_sow_53 : decode cX0_sow 53 = .ok (.iload_n 1, 1) := by decide +kernel
theorem dX0_sow_54 : decode cX0_sow 54 = .ok (.iconst 3, 1) := by decide +kernel
theorem dX0_sow_55 : decode cX0_sow 55 = .ok (.iload_n 3, 1) := by decide +kernel
theorem dX0_sow_56 : decode cX0_sow 56 = .ok (.imul, 1) := by decide +kernel
theorem dX0_sow_57 : decode cX0_sow 57 = .ok (.iadd, 1) := by decide +kernel
theorem dX0_sow_58 : decode cX0_sow 58 = .ok (.iload_n 3, 1) := by decide +kernel
theorem dX0_sow_59 : decode cX0_sow 59 = .ok (.iload_n 3, 1) := by decide +kernel
theorem dX0_sow_60 : decode cX0_sow 60 = .ok (.imul, 1) := by decide +kernel
theorem dX0_sow_61 : decode cX0_sow 61 = .ok (.iload_n 2, 1) := by decide +kernel
theorem dX0_sow_62 : decode cX0_sow 62 = .ok (.imul, 1) := by decide +kernel
theorem dX0_sow_63 : decode cX0_sow 63 = .ok (.iadd, 1) := by decide +kernel
theorem dX0_sow_64 : decode cX0_sow 64 = .ok (.bipush 11, 2) := by decide +kernel
theorem dX0_sow_66 : decode cX0_sow 66 = .ok (.irem, 1) := by decide +kernel
theorem dX0_sow_67 : decode cX0_sow 67 = .ok (.iconst 5, 1) := by decide +kernel
theorem dX0_sow_68 : decode cX0_sow 68 = .ok (.isub, 1) := by decide +kernel
theorem dX0_sow_69 : decode cX0_sow 69 = .ok (.istore 5, 2) := by decide +kernel
theorem dX0_sow_71 : decode cX0_sow 71 = .ok (.aload_n 0, 1) := by decide +kernel
theorem dX0_sow_72 : decode cX0_sow 72 = .ok (.getfield 7, 3) := by decide +kernel
theorem dX0_sow_75 : decode cX0_sow 75 = .ok (.iload_n 3, 1) := by decide +kernel
theorem dX0_sow_76 : decode cX0_sow 76 = .ok (.iload_n 3, 1) := by decide +kernel
theorem dX0_sow_77 : decode cX0_sow 77 = .ok (.invokestatic 51, 3) := by decide +kernel
theorem dX0_sow_80 : decode cX0_sow 80 = .ok (.ifCond .eq 8, 3) := by decide +kernel
theorem dX0_sow_83 : decode cX0_sow 83 = .ok (.iload 4, 2) := by decide +kernel
theorem dX0_sow_85 : decode cX0_sow 85 = .ok (.goto 5, 3) := by decide +kernel
theorem dX0_sow_88 : decode cX0_sow 88 = .ok (.iload 5, 2) := by decide +kernel
theorem dX0_sow_90 : decode cX0_sow 90 = .ok (.iastore, 1) := by decide +kernel
theorem dX0_sow_91 : decode cX0_sow 91 = .ok (.iinc 3 1, 3) := by decide +kernel
theorem dX0_sow_94 : decode cX0_sow 94 = .ok (.goto (-67), 3) := by decide +kernel
theorem dX0_sow_97 : decode cX0_sow 97 = .ok (.iconst 0, 1) := by decide +kernel
theorem dX0_sow_98 : decode cX0_sow 98 = .ok (.ireturn, 1) := by decide +kernel
theorem dX0_get_0 : decode cX0_get 0 = .ok (.iload_n 1, 1) := by decide +kernel
theorem dX0_get_1 : decode cX0_get 1 = .ok (.ifCond .lt 18, 3) := by decide +kernel
theorem dX0_get_4 : decode cX0_get 4 = .ok (.iload_n 1, 1) := by decide +kernel
theorem dX0_get_5 : decode cX0_get 5 = .ok (.bipush 19, 2) := by decide +kernel
theorem dX0_get_7 : decode cX0_get 7 = .ok (.if_icmp .gt 12, 3) := by decide +kernel
theorem dX0_get_10 : decode cX0_get 10 = .ok (.aload_n 0, 1) := by decide +kernel
theorem dX0_get_11 : decode cX0_get 11 = .ok (.getfield 7, 3) := by decide +kernel
theorem dX0_get_14 : decode cX0_get 14 = .ok (.iload_n 1, 1) := by decide +kernel
theorem dX0_get_15 : decode cX0_get 15 = .ok (.iaload, 1) := by decide +kernel
theorem dX0_get_16 : decode cX0_get 16 = .ok (.goto 6, 3) := by decide +kernel
theorem dX0_get_19 : decode cX0_get 19 = .ok (.sipush (-1000), 3) := by decide +kernel
theorem dX0_get_22 : decode cX0_get 22 = .ok (.ireturn, 1) := by decide +kernel
theorem dX0_result_0 : decode cX0_result 0 = .ok (.iload_n 1, 1) := by decide +kernel
theorem dX0_result_1 : decode cX0_result 1 = .ok (.invokestatic 55, 3) := by decide +kernel
theorem dX0_result_4 : decode cX0_result 4 = .ok (.ifCond .eq 10, 3) := by decide +kernel
theorem dX0_result_7 : decode cX0_result 7 = .ok (.iload_n 2, 1) := by decide +kernel
theorem dX0_result_8 : decode cX0_result 8 = .ok (.invokestatic 55, 3) := by decide +kernel
theorem dX0_result_11 : decode cX0_result 11 = .ok (.ifCond .ne 6, 3) := by decide +kernel
theorem dX0_result_14 : decode cX0_result 14 = .ok (.ldc 58, 2) := by decide +kernel
theorem dX0_result_16 : decode cX0_result 16 = .ok (.ireturn, 1) := by decide +kernel
theorem dX0_result_17 : decode cX0_result 17 = .ok (.aload_n 0, 1) := by decide +kernel
theorem dX0_result_18 : decode cX0_result 18 = .ok (.iload_n 1, 1) := by decide +kernel
theorem dX0_result_19 : decode cX0_result 19 = .ok (.iload_n 2, 1) := by decide +kernel
theorem dX0_result_20 : decode cX0_result 20 = .ok (.invokevirtual 59, 3) := by decide +kernel
theorem dX0_result_23 : decode cX0_result 23 = .ok (.aload_n 0, 1) := by decide +kernel
theorem dX0_result_24 : decode cX0_result 24 = .ok (.getfield 13, 3) := by decide +kernel
theorem dX0_result_27 : decode cX0_result 27 = .ok (.iconst 5, 1) := by decide +kernel
theorem dX0_result_28 : decode cX0_result 28 = .ok (.iaload, 1) := by decide +kernel
theorem dX0_result_29 : decode cX0_result 29 = .ok (.ireturn, 1) := by decide +kernel
theorem dX0_isInput_0 : decode cX0_isInput 0 = .ok (.iload_n 0, 1) := by decide +kernel
theorem dX0_isInput_1 : decode cX0_isInput 1 = .ok (.bipush (-16), 2) := by decide +kernel
theorem dX0_isInput_3 : decode cX0_isInput 3 = .ok (.if_icmp .lt 13, 3) := by decide +kernel
theorem dX0_isInput_6 : decode cX0_isInput 6 = .ok (.iload_n 0, 1) := by decide +kernel
theorem dX0_isInput_7 : decode cX0_isInput 7 = .ok (.bipush 16, 2) := by decide +kernel
theorem dX0_isInput_9 : decode cX0_isInput 9 = .ok (.if_icmp .ge 7, 3) := by decide +kernel
theorem dX0_isInput_12 : decode cX0_isInput 12 = .ok (.iconst 1, 1) := by decide +kernel
theorem dX0_isInput_13 : decode cX0_isInput 13 = .ok (.goto 4, 3) := by decide +kernel
theorem dX0_isInput_16 : decode cX0_isInput 16 = .ok (.iconst 0, 1) := by decide +kernel
theorem dX0_isInput_17 : decode cX0_isInput 17 = .ok (.ireturn, 1) := by decide +kernel
theorem dX0_work_0 : decode cX0_work 0 = .ok (.iconst 0, 1) := by decide +kernel
theorem dX0_work_1 : decode cX0_work 1 = .ok (.istore_n 3, 1) := by decide +kernel
theorem dX0_work_2 : decode cX0_work 2 = .ok (.iload_n 3, 1) := by decide +kernel
theorem dX0_work_3 : decode cX0_work 3 = .ok (.iconst 3, 1) := by decide +kernel
theorem dX0_work_4 : decode cX0_work 4 = .ok (.if_icmp .ge 48, 3) := by decide +kernel
theorem dX0_work_7 : decode cX0_work 7 = .ok (.aload_n 0, 1) := by decide +kernel
theorem dX0_work_8 : decode cX0_work 8 = .ok (.getfield 13, 3) := by decide +kernel
theorem dX0_work_11 : decode cX0_work 11 = .ok (.iload_n 3, 1) := by decide +kernel
theorem dX0_work_12 : decode cX0_work 12 = .ok (.aload_n 0, 1) := by decide +kernel
theorem dX0_work_13 : decode cX0_work 13 = .ok (.getfield 7, 3) := by decide +kernel
theorem dX0_work_16 : decode cX0_work 16 = .ok (.iconst 2, 1) := by decide +kernel
theorem dX0_work_17 : decode cX0_work 17 = .ok (.iload_n 3, 1) := by decide +kernel
theorem dX0_work_18 : decode cX0_work 18 = .ok (.imul, 1) := by decide +kernel
theorem dX0_work_19 : decode cX0_work 19 = .ok (.iaload, 1) := by decide +kernel
theorem dX0_work_20 : decode cX0_work 20 = .ok (.iload_n 1, 1) := by decide +kernel
theorem dX0_work_21 : decode cX0_work 21 = .ok (.imul, 1) := by decide +kernel
theorem dX0_work_22 : decode cX0_work 22 = .ok (.aload_n 0, 1) := by decide +kernel
theorem dX0_work_23 : decode cX0_work 23 = .ok (.getfield 7, 3) := by decide +kernel
theorem dX0_work_26 : decode cX0_work 26 = .ok (.iconst 2, 1) := by decide +kernel
theorem dX0_work_27 : decode cX0_work 27 = .ok (.iload_n 3, 1) := by decide +kernel
theorem dX0_work_28 : decode cX0_work 28 = .ok (.imul, 1) := by decide +kernel
theorem dX0_work_29 : decode cX0_work 29 = .ok (.iconst 1, 1) := by decide +kernel
theorem dX0_work_30 : decode cX0_work 30 = .ok (.iadd, 1) := by decide +kernel
theorem dX0_work_31 : decode cX0_work 31 = .ok (.iaload, 1) := by decide +kernel
theorem dX0_work_32 : decode cX0_work 32 = .ok (.iload_n 2, 1) := by decide +kernel
theorem dX0_work_33 : decode cX0_work 33 = .ok (.imul, 1) := by decide +kernel
theorem dX0_work_34 : decode cX0_work 34 = .ok (.iadd, 1) := by decide +kernel
theorem dX0_work_35 : decode cX0_work 35 = .ok (.aload_n 0, 1) := by decide +kernel
theorem dX0_work_36 : decode cX0_work 36 = .ok (.getfield 7, 3) := by decide +kernel
theorem dX0_work_39 : decode cX0_work 39 = .ok (.bipush 6, 2) := by decide +kernel
theorem dX0_work_41 : decode cX0_work 41 = .ok (.iload_n 3, 1) := by decide +kernel
theorem dX0_work_42 : decode cX0_work 42 = .ok (.iadd, 1) := by decide +kernel
theorem dX0_work_43 : decode cX0_work 43 = .ok (.iaload, 1) := by decide +kernel
theorem dX0_work_44 : decode cX0_work 44 = .ok (.iadd, 1) := by decide +kernel
theorem dX0_work_45 : decode cX0_work 45 = .ok (.iastore, 1) := by decide +kernel
theorem dX0_work_46 : decode cX0_work 46 = .ok (.iinc 3 1, 3) := by decide +kernel
theorem dX0_work_49 : decode cX0_work 49 = .ok (.goto (-47), 3) := by decide +kernel
theorem dX0_work_52 : decode cX0_work 52 = .ok (.iconst 0, 1) := by decide +kernel
theorem dX0_work_53 : decode cX0_work 53 = .ok (.istore_n 3, 1) := by decide +kernel
theorem dX0_work_54 : decode cX0_work 54 = .ok (.iload_n 3, 1) := by decide +kernel
theorem dX0_work_55 : decode cX0_work 55 = .ok (.iconst 2, 1) := by decide +kernel
theorem dX0_work_56 : decode cX0_work 56 = .ok (.if_icmp .ge 86, 3) := by decide +kernel
theorem dX0_work_59 : decode cX0_work 59 = .ok (.aload_n 0, 1) := by decide +kernel
theorem dX0_work_60 : decode cX0_work 60 = .ok (.getfield 7, 3) := by decide +kernel
theorem dX0_work_63 : decode cX0_work 63 = .ok (.bipush 15, 2) := by decide +kernel
theorem dX0_work_65 : decode cX0_work 65 = .ok (.iload_n 3, 1) := by decide +kernel
theorem dX0_work_66 : decode cX0_work 66 = .ok (.iadd, 1) := by decide +kernel
theorem dX0_work_67 : decode cX0_work 67 = .ok (.iaload, 1) := by decide +kernel
theorem dX0_work_68 : decode cX0_work 68 = .ok (.istore 4, 2) := by decide +kernel
theorem dX0_work_70 : decode cX0_work 70 = .ok (.iconst 0, 1) := by decide +kernel
theorem dX0_work_71 : decode cX0_work 71 = .ok (.istore 5, 2) := by decide +kernel
theorem dX0_work_73 : decode cX0_work 73 = .ok (.iload 5, 2) := by decide +kernel
theorem dX0_work_75 : decode cX0_work 75 = .ok (.iconst 3, 1) := by decide +kernel
theorem dX0_work_76 : decode cX0_work 76 = .ok (.if_icmp .ge 50, 3) := by decide +kernel
theorem dX0_work_79 : decode cX0_work 79 = .ok (.iload 4, 2) := by decide +kernel
theorem dX0_work_81 : decode cX0_work 81 = .ok (.aload_n 0, 1) := by decide +kernel
theorem dX0_work_82 : decode cX0_work 82 = .ok (.getfield 13, 3) := by decide +kernel
theorem dX0_work_85 : decode cX0_work 85 = .ok (.iload 5, 2) := by decide +kernel
theorem dX0_work_87 : decode cX0_work 87 = .ok (.iaload, 1) := by decide +kernel
theorem dX0_work_88 : decode cX0_work 88 = .ok (.ifCond .le 28, 3) := by decide +kernel
theorem dX0_work_91 : decode cX0_work 91 = .ok (.aload_n 0, 1) := by decide +kernel
theorem dX0_work_92 : decode cX0_work 92 = .ok (.getfield 7, 3) := by decide +kernel
theorem dX0_work_95 : decode cX0_work 95 = .ok (.bipush 9, 2) := by decide +kernel
theorem dX0_work_97 : decode cX0_work 97 = .ok (.iconst 3, 1) := by decide +kernel
theorem dX0_work_98 : decode cX0_work 98 = .ok (.iload_n 3, 1) := by decide +kernel
theorem dX0_work_99 : decode cX0_work 99 = .ok (.imul, 1) := by decide +kernel
theorem dX0_work_100 : decode cX0_work 100 = .ok (.iadd, 1) := by decide +kernel
theorem dX0_work_101 : decode cX0_work 101 = .ok (.iload 5, 2) := by decide +kernel
theorem dX0_work_103 : decode cX0_work 103 = .ok (.iadd, 1) := by decide +kernel
theorem dX0_work_104 : decode cX0_work 104 = .ok (.iaload, 1) := by decide +kernel
theorem dX0_work_105 : decode cX0_work 105 = .ok (.aload_n 0, 1) := by decide +kernel
theorem dX0_work_106 : decode cX0_work 106 = .ok (.getfield 13, 3) := by decide +kernel
theorem dX0_work_109 : decode cX0_work 109 = .ok (.iload 5, 2) := by decide +kernel
theorem dX0_work_111 : decode cX0_work 111 = .ok (.iaload, 1) := by decide +kernel
theorem dX0_work_112 : decode cX0_work 112 = .ok (.imul, 1) := by decide +kernel
theorem dX0_work_113 : decode cX0_work 113 = .ok (.goto 4, 3) := by decide +kernel
theorem dX0_work_116 : decode cX0_work 116 = .ok (.iconst 0, 1) := by decide +kernel
theorem dX0_work_117 : decode cX0_work 117 = .ok (.iadd, 1) := by decide +kernel
theorem dX0_work_118 : decode cX0_work 118 = .ok (.istore 4, 2) := by decide +kernel
theorem dX0_work_120 : decode cX0_work 120 = .ok (.iinc 5 1, 3) := by decide +kernel
theorem dX0_work_123 : decode cX0_work 123 = .ok (.goto (-50), 3) := by decide +kernel
theorem dX0_work_126 : decode cX0_work 126 = .ok (.aload_n 0, 1) := by decide +kernel
theorem dX0_work_127 : decode cX0_work 127 = .ok (.getfield 13, 3) := by decide +kernel
theorem dX0_work_130 : decode cX0_work 130 = .ok (.iconst 3, 1) := by decide +kernel
theorem dX0_work_131 : decode cX0_work 131 = .ok (.iload_n 3, 1) := by decide +kernel
theorem dX0_work_132 : decode cX0_work 132 = .ok (.iadd, 1) := by decide +kernel
theorem dX0_work_133 : decode cX0_work 133 = .ok (.iload 4, 2) := by decide +kernel
theorem dX0_work_135 : decode cX0_work 135 = .ok (.iastore, 1) := by decide +kernel
theorem dX0_work_136 : decode cX0_work 136 = .ok (.iinc 3 1, 3) := by decide +kernel
theorem dX0_work_139 : decode cX0_work 139 = .ok (.goto (-85), 3) := by decide +kernel
theorem dX0_work_142 : decode cX0_work 142 = .ok (.aload_n 0, 1) := by decide +kernel
theorem dX0_work_143 : decode cX0_work 143 = .ok (.getfield 7, 3) := by decide +kernel
theorem dX0_work_146 : decode cX0_work 146 = .ok (.bipush 19, 2) := by decide +kernel
theorem dX0_work_148 : decode cX0_work 148 = .ok (.iaload, 1) := by decide +kernel
theorem dX0_work_149 : decode cX0_work 149 = .ok (.istore_n 3, 1) := by decide +kernel
theorem dX0_work_150 : decode cX0_work 150 = .ok (.iconst 0, 1) := by decide +kernel
theorem dX0_work_151 : decode cX0_work 151 = .ok (.istore 4, 2) := by decide +kernel
theorem dX0_work_153 : decode cX0_work 153 = .ok (.iload 4, 2) := by decide +kernel
theorem dX0_work_155 : decode cX0_work 155 = .ok (.iconst 2, 1) := by decide +kernel
theorem dX0_work_156 : decode cX0_work 156 = .ok (.if_icmp .ge 48, 3) := by decide +kernel
theorem dX0_work_159 : decode cX0_work 159 = .ok (.iload_n 3, 1) := by decide +kernel
theorem dX0_work_160 : decode cX0_work 160 = .ok (.aload_n 0, 1) := by decide +kernel
theorem dX0_work_161 : decode cX0_work 161 = .ok (.getfield 13, 3) := by decide +kernel
theorem dX0_work_164 : decode cX0_work 164 = .ok (.iconst 3, 1) := by decide +kernel
theorem dX0_work_165 : decode cX0_work 165 = .ok (.iload 4, 2) := by decide +kernel
theorem dX0_work_167 : decode cX0_work 167 = .ok (.iadd, 1) := by decide +kernel
theorem dX0_work_168 : decode cX0_work 168 = .ok (.iaload, 1) := by decide +kernel
theorem dX0_work_169 : decode cX0_work 169 = .ok (.ifCond .le 26, 3) := by decide +kernel
theorem dX0_work_172 : decode cX0_work 172 = .ok (.aload_n 0, 1) := by decide +kernel
theorem dX0_work_173 : decode cX0_work 173 = .ok (.getfield 7, 3) := by decide +kernel
theorem dX0_work_176 : decode cX0_work 176 = .ok (.bipush 17, 2) := by decide +kernel
theorem dX0_work_178 : decode cX0_work 178 = .ok (.iload 4, 2) := by decide +kernel
theorem dX0_work_180 : decode cX0_work 180 = .ok (.iadd, 1) := by decide +kernel
theorem dX0_work_181 : decode cX0_work 181 = .ok (.iaload, 1) := by decide +kernel
theorem dX0_work_182 : decode cX0_work 182 = .ok (.aload_n 0, 1) := by decide +kernel
theorem dX0_work_183 : decode cX0_work 183 = .ok (.getfield 13, 3) := by decide +kernel
theorem dX0_work_186 : decode cX0_work 186 = .ok (.iconst 3, 1) := by decide +kernel
theorem dX0_work_187 : decode cX0_work 187 = .ok (.iload 4, 2) := by decide +kernel
theorem dX0_work_189 : decode cX0_work 189 = .ok (.iadd, 1) := by decide +kernel
theorem dX0_work_190 : decode cX0_work 190 = .ok (.iaload, 1) := by decide +kernel
theorem dX0_work_191 : decode cX0_work 191 = .ok (.imul, 1) := by decide +kernel
theorem dX0_work_192 : decode cX0_work 192 = .ok (.goto 4, 3) := by decide +kernel
theorem dX0_work_195 : decode cX0_work 195 = .ok (.iconst 0, 1) := by decide +kernel
theorem dX0_work_196 : decode cX0_work 196 = .ok (.iadd, 1) := by decide +kernel
theorem dX0_work_197 : decode cX0_work 197 = .ok (.istore_n 3, 1) := by decide +kernel
theorem dX0_work_198 : decode cX0_work 198 = .ok (.iinc 4 1, 3) := by decide +kernel
theorem dX0_work_201 : decode cX0_work 201 = .ok (.goto (-48), 3) := by decide +kernel
theorem dX0_work_204 : decode cX0_work 204 = .ok (.aload_n 0, 1) := by decide +kernel
theorem dX0_work_205 : decode cX0_work 205 = .ok (.getfield 13, 3) := by decide +kernel
theorem dX0_work_208 : decode cX0_work 208 = .ok (.iconst 5, 1) := by decide +kernel
theorem dX0_work_209 : decode cX0_work 209 = .ok (.iload_n 3, 1) := by decide +kernel
theorem dX0_work_210 : decode cX0_work 210 = .ok (.iastore, 1) := by decide +kernel
theorem dX0_work_211 : decode cX0_work 211 = .ok (.return_, 1) := by decide +kernel
theorem dX0_unit_0 : decode cX0_unit 0 = .ok (.iload_n 1, 1) := by decide +kernel
theorem dX0_unit_1 : decode cX0_unit 1 = .ok (.ifCond .lt 8, 3) := by decide +kernel
theorem dX0_unit_4 : decode cX0_unit 4 = .ok (.iload_n 1, 1) := by decide +kernel
theorem dX0_unit_5 : decode cX0_unit 5 = .ok (.iconst 4, 1) := by decide +kernel
theorem dX0_unit_6 : decode cX0_unit 6 = .ok (.if_icmp .le 5, 3) := by decide +kernel
theorem dX0_unit_9 : decode cX0_unit 9 = .ok (.iconst (-1), 1) := by decide +kernel
theorem dX0_unit_10 : decode cX0_unit 10 = .ok (.ireturn, 1) := by decide +kernel
theorem dX0_unit_11 : decode cX0_unit 11 = .ok (.iload_n 2, 1) := by decide +kernel
theorem dX0_unit_12 : decode cX0_unit 12 = .ok (.invokestatic 55, 3) := by decide +kernel
theorem dX0_unit_15 : decode cX0_unit 15 = .ok (.ifCond .eq 10, 3) := by decide +kernel
theorem dX0_unit_18 : decode cX0_unit 18 = .ok (.iload_n 3, 1) := by decide +kernel
theorem dX0_unit_19 : decode cX0_unit 19 = .ok (.invokestatic 55, 3) := by decide +kernel
theorem dX0_unit_22 : decode cX0_unit 22 = .ok (.ifCond .ne 6, 3) := by decide +kernel
theorem dX0_unit_25 : decode cX0_unit 25 = .ok (.bipush (-2), 2) := by decide +kernel
theorem dX0_unit_27 : decode cX0_unit 27 = .ok (.ireturn, 1) := by decide +kernel
theorem dX0_unit_28 : decode cX0_unit 28 = .ok (.aload_n 0, 1) := by decide +kernel
theorem dX0_unit_29 : decode cX0_unit 29 = .ok (.iload_n 2, 1) := by decide +kernel
theorem dX0_unit_30 : decode cX0_unit 30 = .ok (.iload_n 3, 1) := by decide +kernel
theorem dX0_unit_31 : decode cX0_unit 31 = .ok (.invokevirtual 59, 3) := by decide +kernel
end
section
set_option maxRecDepth 100000
theorem dX0_unit_34 : decode cX0_unit 34 = .ok (.aload_n 0, 1) := by decide +kernel
theorem dX0_unit_35 : decode cX0_unit 35 = .ok (.getfield 13, 3) := by decide +kernel
theorem dX0_unit_38 : decode cX0_unit 38 = .ok (.iload_n 1, 1) := by decide +kernel
theorem dX0_unit_39 : decode cX0_unit 39 = .ok (.iaload, 1) := by decide +kernel
theorem dX0_unit_40 : decode cX0_unit 40 = .ok (.ifCond .le 12, 3) := by decide +kernel
theorem dX0_unit_43 : decode cX0_unit 43 = .ok (.aload_n 0, 1) := by decide +kernel
theorem dX0_unit_44 : decode cX0_unit 44 = .ok (.getfield 13, 3) := by decide +kernel
theorem dX0_unit_47 : decode cX0_unit 47 = .ok (.iload_n 1, 1) := by decide +kernel
theorem dX0_unit_48 : decode cX0_unit 48 = .ok (.iaload, 1) := by decide +kernel
theorem dX0_unit_49 : decode cX0_unit 49 = .ok (.goto 4, 3) := by decide +kernel
theorem dX0_unit_52 : decode cX0_unit 52 = .ok (.iconst 0, 1) := by decide +kernel
theorem dX0_unit_53 : decode cX0_unit 53 = .ok (.ireturn, 1) := by decide +kernel
theorem dX0_most_0 : decode cX0_most 0 = .ok (.iload_n 1, 1) := by decide +kernel
theorem dX0_most_1 : decode cX0_most 1 = .ok (.invokestatic 63, 3) := by decide +kernel
theorem dX0_most_4 : decode cX0_most 4 = .ok (.ifCond .eq 10, 3) := by decide +kernel
theorem dX0_most_7 : decode cX0_most 7 = .ok (.iload_n 2, 1) := by decide +kernel
theorem dX0_most_8 : decode cX0_most 8 = .ok (.invokestatic 63, 3) := by decide +kernel
theorem dX0_most_11 : decode cX0_most 11 = .ok (.ifCond .ne 6, 3) := by decide +kernel
theorem dX0_most_14 : decode cX0_most 14 = .ok (.ldc 58, 2) := by decide +kernel
theorem dX0_most_16 : decode cX0_most 16 = .ok (.ireturn, 1) := by decide +kernel
theorem dX0_most_17 : decode cX0_most 17 = .ok (.aload_n 0, 1) := by decide +kernel
theorem dX0_most_18 : decode cX0_most 18 = .ok (.iload_n 1, 1) := by decide +kernel
theorem dX0_most_19 : decode cX0_most 19 = .ok (.iload_n 2, 1) := by decide +kernel
theorem dX0_most_20 : decode cX0_most 20 = .ok (.iconst 5, 1) := by decide +kernel
theorem dX0_most_21 : decode cX0_most 21 = .ok (.iconst 1, 1) := by decide +kernel
theorem dX0_most_22 : decode cX0_most 22 = .ok (.invokevirtual 66, 3) := by decide +kernel
theorem dX0_most_25 : decode cX0_most 25 = .ok (.ireturn, 1) := by decide +kernel
theorem dX0_isInterval_0 : decode cX0_isInterval 0 = .ok (.iload_n 0, 1) := by decide +kernel
theorem dX0_isInterval_1 : decode cX0_isInterval 1 = .ok (.ifCond .lt 24, 3) := by decide +kernel
theorem dX0_isInterval_4 : decode cX0_isInterval 4 = .ok (.iload_n 0, 1) := by decide +kernel
theorem dX0_isInterval_5 : decode cX0_isInterval 5 = .ok (.sipush 1023, 3) := by decide +kernel
theorem dX0_isInterval_8 : decode cX0_isInterval 8 = .ok (.if_icmp .gt 17, 3) := by decide +kernel
theorem dX0_isInterval_11 : decode cX0_isInterval 11 = .ok (.iload_n 0, 1) := by decide +kernel
theorem dX0_isInterval_12 : decode cX0_isInterval 12 = .ok (.iconst 5, 1) := by decide +kernel
theorem dX0_isInterval_13 : decode cX0_isInterval 13 = .ok (.ishr, 1) := by decide +kernel
theorem dX0_isInterval_14 : decode cX0_isInterval 14 = .ok (.iload_n 0, 1) := by decide +kernel
theorem dX0_isInterval_15 : decode cX0_isInterval 15 = .ok (.bipush 31, 2) := by decide +kernel
theorem dX0_isInterval_17 : decode cX0_isInterval 17 = .ok (.iand, 1) := by decide +kernel
theorem dX0_isInterval_18 : decode cX0_isInterval 18 = .ok (.if_icmp .gt 7, 3) := by decide +kernel
theorem dX0_isInterval_21 : decode cX0_isInterval 21 = .ok (.iconst 1, 1) := by decide +kernel
theorem dX0_isInterval_22 : decode cX0_isInterval 22 = .ok (.goto 4, 3) := by decide +kernel
theorem dX0_isInterval_25 : decode cX0_isInterval 25 = .ok (.iconst 0, 1) := by decide +kernel
theorem dX0_isInterval_26 : decode cX0_isInterval 26 = .ok (.ireturn, 1) := by decide +kernel
theorem dX0_extreme_0 : decode cX0_extreme 0 = .ok (.aload_n 0, 1) := by decide +kernel
theorem dX0_extreme_1 : decode cX0_extreme 1 = .ok (.iload_n 1, 1) := by decide +kernel
theorem dX0_extreme_2 : decode cX0_extreme 2 = .ok (.iload_n 2, 1) := by decide +kernel
theorem dX0_extreme_3 : decode cX0_extreme 3 = .ok (.invokevirtual 78, 3) := by decide +kernel
theorem dX0_extreme_6 : decode cX0_extreme 6 = .ok (.aload_n 0, 1) := by decide +kernel
theorem dX0_extreme_7 : decode cX0_extreme 7 = .ok (.aload_n 0, 1) := by decide +kernel
theorem dX0_extreme_8 : decode cX0_extreme 8 = .ok (.getfield 35, 3) := by decide +kernel
theorem dX0_extreme_11 : decode cX0_extreme 11 = .ok (.iconst 0, 1) := by decide +kernel
theorem dX0_extreme_12 : decode cX0_extreme 12 = .ok (.iaload, 1) := by decide +kernel
theorem dX0_extreme_13 : decode cX0_extreme 13 = .ok (.aload_n 0, 1) := by decide +kernel
theorem dX0_extreme_14 : decode cX0_extreme 14 = .ok (.getfield 41, 3) := by decide +kernel
theorem dX0_extreme_17 : decode cX0_extreme 17 = .ok (.iconst 0, 1) := by decide +kernel
theorem dX0_extreme_18 : decode cX0_extreme 18 = .ok (.iaload, 1) := by decide +kernel
theorem dX0_extreme_19 : decode cX0_extreme 19 = .ok (.invokevirtual 59, 3) := by decide +kernel
theorem dX0_extreme_22 : decode cX0_extreme 22 = .ok (.aload_n 0, 1) := by decide +kernel
theorem dX0_extreme_23 : decode cX0_extreme 23 = .ok (.iload 4, 2) := by decide +kernel
theorem dX0_extreme_25 : decode cX0_extreme 25 = .ok (.aload_n 0, 1) := by decide +kernel
theorem dX0_extreme_26 : decode cX0_extreme 26 = .ok (.getfield 13, 3) := by decide +kernel
theorem dX0_extreme_29 : decode cX0_extreme 29 = .ok (.iload_n 3, 1) := by decide +kernel
theorem dX0_extreme_30 : decode cX0_extreme 30 = .ok (.iaload, 1) := by decide +kernel
theorem dX0_extreme_31 : decode cX0_extreme 31 = .ok (.imul, 1) := by decide +kernel
theorem dX0_extreme_32 : decode cX0_extreme 32 = .ok (.putfield 107, 3) := by decide +kernel
theorem dX0_extreme_35 : decode cX0_extreme 35 = .ok (.iconst 0, 1) := by decide +kernel
theorem dX0_extreme_36 : decode cX0_extreme 36 = .ok (.istore 5, 2) := by decide +kernel
theorem dX0_extreme_38 : decode cX0_extreme 38 = .ok (.iload 5, 2) := by decide +kernel
theorem dX0_extreme_40 : decode cX0_extreme 40 = .ok (.sipush 2048, 3) := by decide +kernel
theorem dX0_extreme_43 : decode cX0_extreme 43 = .ok (.if_icmp .ge 129, 3) := by decide +kernel
theorem dX0_extreme_46 : decode cX0_extreme 46 = .ok (.aload_n 0, 1) := by decide +kernel
theorem dX0_extreme_47 : decode cX0_extreme 47 = .ok (.getfield 47, 3) := by decide +kernel
theorem dX0_extreme_50 : decode cX0_extreme 50 = .ok (.ifCond .le 122, 3) := by decide +kernel
theorem dX0_extreme_53 : decode cX0_extreme 53 = .ok (.aload_n 0, 1) := by decide +kernel
theorem dX0_extreme_54 : decode cX0_extreme 54 = .ok (.dup, 1) := by decide +kernel
theorem dX0_extreme_55 : decode cX0_extreme 55 = .ok (.getfield 47, 3) := by decide +kernel
theorem dX0_extreme_58 : decode cX0_extreme 58 = .ok (.iconst 1, 1) := by decide +kernel
theorem dX0_extreme_59 : decode cX0_extreme 59 = .ok (.isub, 1) := by decide +kernel
theorem dX0_extreme_60 : decode cX0_extreme 60 = .ok (.putfield 47, 3) := by decide +kernel
theorem dX0_extreme_63 : decode cX0_extreme 63 = .ok (.aload_n 0, 1) := by decide +kernel
theorem dX0_extreme_64 : decode cX0_extreme 64 = .ok (.getfield 47, 3) := by decide +kernel
theorem dX0_extreme_67 : decode cX0_extreme 67 = .ok (.istore 6, 2) := by decide +kernel
theorem dX0_extreme_69 : decode cX0_extreme 69 = .ok (.aload_n 0, 1) := by decide +kernel
theorem dX0_extreme_70 : decode cX0_extreme 70 = .ok (.aload_n 0, 1) := by decide +kernel
theorem dX0_extreme_71 : decode cX0_extreme 71 = .ok (.getfield 35, 3) := by decide +kernel
theorem dX0_extreme_74 : decode cX0_extreme 74 = .ok (.iload 6, 2) := by decide +kernel
theorem dX0_extreme_76 : decode cX0_extreme 76 = .ok (.iaload, 1) := by decide +kernel
theorem dX0_extreme_77 : decode cX0_extreme 77 = .ok (.aload_n 0, 1) := by decide +kernel
theorem dX0_extreme_78 : decode cX0_extreme 78 = .ok (.getfield 38, 3) := by decide +kernel
theorem dX0_extreme_81 : decode cX0_extreme 81 = .ok (.iload 6, 2) := by decide +kernel
theorem dX0_extreme_83 : decode cX0_extreme 83 = .ok (.iaload, 1) := by decide +kernel
theorem dX0_extreme_84 : decode cX0_extreme 84 = .ok (.aload_n 0, 1) := by decide +kernel
theorem dX0_extreme_85 : decode cX0_extreme 85 = .ok (.getfield 41, 3) := by decide +kernel
theorem dX0_extreme_88 : decode cX0_extreme 88 = .ok (.iload 6, 2) := by decide +kernel
theorem dX0_extreme_90 : decode cX0_extreme 90 = .ok (.iaload, 1) := by decide +kernel
theorem dX0_extreme_91 : decode cX0_extreme 91 = .ok (.aload_n 0, 1) := by decide +kernel
theorem dX0_extreme_92 : decode cX0_extreme 92 = .ok (.getfield 44, 3) := by decide +kernel
theorem dX0_extreme_95 : decode cX0_extreme 95 = .ok (.iload 6, 2) := by decide +kernel
theorem dX0_extreme_97 : decode cX0_extreme 97 = .ok (.iaload, 1) := by decide +kernel
theorem dX0_extreme_98 : decode cX0_extreme 98 = .ok (.invokevirtual 81, 3) := by decide +kernel
theorem dX0_extreme_101 : decode cX0_extreme 101 = .ok (.iload 4, 2) := by decide +kernel
theorem dX0_extreme_103 : decode cX0_extreme 103 = .ok (.ifCond .le 12, 3) := by decide +kernel
theorem dX0_extreme_106 : decode cX0_extreme 106 = .ok (.aload_n 0, 1) := by decide +kernel
theorem dX0_extreme_107 : decode cX0_extreme 107 = .ok (.getfield 19, 3) := by decide +kernel
theorem dX0_extreme_110 : decode cX0_extreme 110 = .ok (.iload_n 3, 1) := by decide +kernel
theorem dX0_extreme_111 : decode cX0_extreme 111 = .ok (.iaload, 1) := by decide +kernel
theorem dX0_extreme_112 : decode cX0_extreme 112 = .ok (.goto 10, 3) := by decide +kernel
theorem dX0_extreme_115 : decode cX0_extreme 115 = .ok (.aload_n 0, 1) := by decide +kernel
theorem dX0_extreme_116 : decode cX0_extreme 116 = .ok (.getfield 16, 3) := by decide +kernel
theorem dX0_extreme_119 : decode cX0_extreme 119 = .ok (.iload_n 3, 1) := by decide +kernel
theorem dX0_extreme_120 : decode cX0_extreme 120 = .ok (.iaload, 1) := by decide +kernel
theorem dX0_extreme_121 : decode cX0_extreme 121 = .ok (.ineg, 1) := by decide +kernel
theorem dX0_extreme_122 : decode cX0_extreme 122 = .ok (.istore 7, 2) := by decide +kernel
theorem dX0_extreme_124 : decode cX0_extreme 124 = .ok (.iload 7, 2) := by decide +kernel
theorem dX0_extreme_126 : decode cX0_extreme 126 = .ok (.aload_n 0, 1) := by decide +kernel
theorem dX0_extreme_127 : decode cX0_extreme 127 = .ok (.getfield 107, 3) := by decide +kernel
theorem dX0_extreme_130 : decode cX0_extreme 130 = .ok (.if_icmp .le 36, 3) := by decide +kernel
theorem dX0_extreme_133 : decode cX0_extreme 133 = .ok (.aload_n 0, 1) := by decide +kernel
theorem dX0_extreme_134 : decode cX0_extreme 134 = .ok (.getfield 31, 3) := by decide +kernel
theorem dX0_extreme_137 : decode cX0_extreme 137 = .ok (.iload_n 3, 1) := by decide +kernel
theorem dX0_extreme_138 : decode cX0_extreme 138 = .ok (.baload, 1) := by decide +kernel
theorem dX0_extreme_139 : decode cX0_extreme 139 = .ok (.ifCond .ne 12, 3) := by decide +kernel
theorem dX0_extreme_142 : decode cX0_extreme 142 = .ok (.aload_n 0, 1) := by decide +kernel
theorem dX0_extreme_143 : decode cX0_extreme 143 = .ok (.iload 6, 2) := by decide +kernel
theorem dX0_extreme_145 : decode cX0_extreme 145 = .ok (.invokevirtual 110, 3) := by decide +kernel
theorem dX0_extreme_148 : decode cX0_extreme 148 = .ok (.ifCond .eq 12, 3) := by decide +kernel
theorem dX0_extreme_151 : decode cX0_extreme 151 = .ok (.aload_n 0, 1) := by decide +kernel
theorem dX0_extreme_152 : decode cX0_extreme 152 = .ok (.iload 7, 2) := by decide +kernel
theorem dX0_extreme_154 : decode cX0_extreme 154 = .ok (.putfield 107, 3) := by decide +kernel
theorem dX0_extreme_157 : decode cX0_extreme 157 = .ok (.goto 9, 3) := by decide +kernel
theorem dX0_extreme_160 : decode cX0_extreme 160 = .ok (.aload_n 0, 1) := by decide +kernel
theorem dX0_extreme_161 : decode cX0_extreme 161 = .ok (.iload 6, 2) := by decide +kernel
theorem dX0_extreme_163 : decode cX0_extreme 163 = .ok (.invokevirtual 89, 3) := by decide +kernel
theorem dX0_extreme_166 : decode cX0_extreme 166 = .ok (.iinc 5 1, 3) := by decide +kernel
theorem dX0_extreme_169 : decode cX0_extreme 169 = .ok (.goto (-131), 3) := by decide +kernel
theorem dX0_extreme_172 : decode cX0_extreme 172 = .ok (.aload_n 0, 1) := by decide +kernel
theorem dX0_extreme_173 : decode cX0_extreme 173 = .ok (.getfield 107, 3) := by decide +kernel
theorem dX0_extreme_176 : decode cX0_extreme 176 = .ok (.ireturn, 1) := by decide +kernel
theorem dX0_open_0 : decode cX0_open 0 = .ok (.aload_n 0, 1) := by decide +kernel
theorem dX0_open_1 : decode cX0_open 1 = .ok (.getfield 35, 3) := by decide +kernel
theorem dX0_open_4 : decode cX0_open 4 = .ok (.iconst 0, 1) := by decide +kernel
theorem dX0_open_5 : decode cX0_open 5 = .ok (.iload_n 1, 1) := by decide +kernel
theorem dX0_open_6 : decode cX0_open 6 = .ok (.iconst 5, 1) := by decide +kernel
theorem dX0_open_7 : decode cX0_open 7 = .ok (.ishr, 1) := by decide +kernel
theorem dX0_open_8 : decode cX0_open 8 = .ok (.bipush 16, 2) := by decide +kernel
theorem dX0_open_10 : decode cX0_open 10 = .ok (.isub, 1) := by decide +kernel
theorem dX0_open_11 : decode cX0_open 11 = .ok (.iastore, 1) := by decide +kernel
theorem dX0_open_12 : decode cX0_open 12 = .ok (.aload_n 0, 1) := by decide +kernel
theorem dX0_open_13 : decode cX0_open 13 = .ok (.getfield 38, 3) := by decide +kernel
theorem dX0_open_16 : decode cX0_open 16 = .ok (.iconst 0, 1) := by decide +kernel
theorem dX0_open_17 : decode cX0_open 17 = .ok (.iload_n 1, 1) := by decide +kernel
theorem dX0_open_18 : decode cX0_open 18 = .ok (.bipush 31, 2) := by decide +kernel
theorem dX0_open_20 : decode cX0_open 20 = .ok (.iand, 1) := by decide +kernel
theorem dX0_open_21 : decode cX0_open 21 = .ok (.bipush 16, 2) := by decide +kernel
theorem dX0_open_23 : decode cX0_open 23 = .ok (.isub, 1) := by decide +kernel
theorem dX0_open_24 : decode cX0_open 24 = .ok (.iastore, 1) := by decide +kernel
theorem dX0_open_25 : decode cX0_open 25 = .ok (.aload_n 0, 1) := by decide +kernel
theorem dX0_open_26 : decode cX0_open 26 = .ok (.getfield 41, 3) := by decide +kernel
theorem dX0_open_29 : decode cX0_open 29 = .ok (.iconst 0, 1) := by decide +kernel
theorem dX0_open_30 : decode cX0_open 30 = .ok (.iload_n 2, 1) := by decide +kernel
theorem dX0_open_31 : decode cX0_open 31 = .ok (.iconst 5, 1) := by decide +kernel
theorem dX0_open_32 : decode cX0_open 32 = .ok (.ishr, 1) := by decide +kernel
theorem dX0_open_33 : decode cX0_open 33 = .ok (.bipush 16, 2) := by decide +kernel
theorem dX0_open_35 : decode cX0_open 35 = .ok (.isub, 1) := by decide +kernel
theorem dX0_open_36 : decode cX0_open 36 = .ok (.iastore, 1) := by decide +kernel
theorem dX0_open_37 : decode cX0_open 37 = .ok (.aload_n 0, 1) := by decide +kernel
theorem dX0_open_38 : decode cX0_open 38 = .ok (.getfield 44, 3) := by decide +kernel
theorem dX0_open_41 : decode cX0_open 41 = .ok (.iconst 0, 1) := by decide +kernel
theorem dX0_open_42 : decode cX0_open 42 = .ok (.iload_n 2, 1) := by decide +kernel
theorem dX0_open_43 : decode cX0_open 43 = .ok (.bipush 31, 2) := by decide +kernel
theorem dX0_open_45 : decode cX0_open 45 = .ok (.iand, 1) := by decide +kernel
theorem dX0_open_46 : decode cX0_open 46 = .ok (.bipush 16, 2) := by decide +kernel
theorem dX0_open_48 : decode cX0_open 48 = .ok (.isub, 1) := by decide +kernel
theorem dX0_open_49 : decode cX0_open 49 = .ok (.iastore, 1) := by decide +kernel
theorem dX0_open_50 : decode cX0_open 50 = .ok (.aload_n 0, 1) := by decide +kernel
theorem dX0_open_51 : decode cX0_open 51 = .ok (.iconst 1, 1) := by decide +kernel
theorem dX0_open_52 : decode cX0_open 52 = .ok (.putfield 47, 3) := by decide +kernel
theorem dX0_open_55 : decode cX0_open 55 = .ok (.return_, 1) := by decide +kernel
theorem dX0_range_0 : decode cX0_range 0 = .ok (.iconst 0, 1) := by decide +kernel
theorem dX0_range_1 : decode cX0_range 1 = .ok (.istore 5, 2) := by decide +kernel
theorem dX0_range_3 : decode cX0_range 3 = .ok (.iload 5, 2) := by decide +kernel
theorem dX0_range_5 : decode cX0_range 5 = .ok (.iconst 3, 1) := by decide +kernel
theorem dX0_range_6 : decode cX0_range 6 = .ok (.if_icmp .ge 79, 3) := by decide +kernel
theorem dX0_range_9 : decode cX0_range 9 = .ok (.aload_n 0, 1) := by decide +kernel
theorem dX0_range_10 : decode cX0_range 10 = .ok (.getfield 22, 3) := by decide +kernel
theorem dX0_range_13 : decode cX0_range 13 = .ok (.iload 5, 2) := by decide +kernel
theorem dX0_range_15 : decode cX0_range 15 = .ok (.aload_n 0, 1) := by decide +kernel
theorem dX0_range_16 : decode cX0_range 16 = .ok (.getfield 7, 3) := by decide +kernel
theorem dX0_range_19 : decode cX0_range 19 = .ok (.iconst 2, 1) := by decide +kernel
theorem dX0_range_20 : decode cX0_range 20 = .ok (.iload 5, 2) := by decide +kernel
theorem dX0_range_22 : decode cX0_range 22 = .ok (.imul, 1) := by decide +kernel
theorem dX0_range_23 : decode cX0_range 23 = .ok (.iaload, 1) := by decide +kernel
theorem dX0_range_24 : decode cX0_range 24 = .ok (.iastore, 1) := by decide +kernel
theorem dX0_range_25 : decode cX0_range 25 = .ok (.aload_n 0, 1) := by decide +kernel
theorem dX0_range_26 : decode cX0_range 26 = .ok (.getfield 25, 3) := by decide +kernel
theorem dX0_range_29 : decode cX0_range 29 = .ok (.iload 5, 2) := by decide +kernel
theorem dX0_range_31 : decode cX0_range 31 = .ok (.aload_n 0, 1) := by decide +kernel
theorem dX0_range_32 : decode cX0_range 32 = .ok (.getfield 7, 3) := by decide +kernel
theorem dX0_range_35 : decode cX0_range 35 = .ok (.iconst 2, 1) := by decide +kernel
theorem dX0_range_36 : decode cX0_range 36 = .ok (.iload 5, 2) := by decide +kernel
theorem dX0_range_38 : decode cX0_range 38 = .ok (.imul, 1) := by decide +kernel
theorem dX0_range_39 : decode cX0_range 39 = .ok (.iconst 1, 1) := by decide +kernel
theorem dX0_range_40 : decode cX0_range 40 = .ok (.iadd, 1) := by decide +kernel
theorem dX0_range_41 : decode cX0_range 41 = .ok (.iaload, 1) := by decide +kernel
theorem dX0_range_42 : decode cX0_range 42 = .ok (.iastore, 1) := by decide +kernel
theorem dX0_range_43 : decode cX0_range 43 = .ok (.aload_n 0, 1) := by decide +kernel
theorem dX0_range_44 : decode cX0_range 44 = .ok (.getfield 28, 3) := by decide +kernel
theorem dX0_range_47 : decode cX0_range 47 = .ok (.iload 5, 2) := by decide +kernel
theorem dX0_range_49 : decode cX0_range 49 = .ok (.aload_n 0, 1) := by decide +kernel
theorem dX0_range_50 : decode cX0_range 50 = .ok (.getfield 7, 3) := by decide +kernel
theorem dX0_range_53 : decode cX0_range 53 = .ok (.bipush 6, 2) := by decide +kernel
theorem dX0_range_55 : decode cX0_range 55 = .ok (.iload 5, 2) := by decide +kernel
theorem dX0_range_57 : decode cX0_range 57 = .ok (.iadd, 1) := by decide +kernel
theorem dX0_range_58 : decode cX0_range 58 = .ok (.iaload, 1) := by decide +kernel
theorem dX0_range_59 : decode cX0_range 59 = .ok (.iastore, 1) := by decide +kernel
theorem dX0_range_60 : decode cX0_range 60 = .ok (.aload_n 0, 1) := by decide +kernel
theorem dX0_range_61 : decode cX0_range 61 = .ok (.getfield 31, 3) := by decide +kernel
theorem dX0_range_64 : decode cX0_range 64 = .ok (.iload 5, 2) := by decide +kernel
theorem dX0_range_66 : decode cX0_range 66 = .ok (.iconst 1, 1) := by decide +kernel
theorem dX0_range_67 : decode cX0_range 67 = .ok (.bastore, 1) := by decide +kernel
theorem dX0_range_68 : decode cX0_range 68 = .ok (.aload_n 0, 1) := by decide +kernel
theorem dX0_range_69 : decode cX0_range 69 = .ok (.iload 5, 2) := by decide +kernel
theorem dX0_range_71 : decode cX0_range 71 = .ok (.iload_n 1, 1) := by decide +kernel
theorem dX0_range_72 : decode cX0_range 72 = .ok (.iload_n 2, 1) := by decide +kernel
theorem dX0_range_73 : decode cX0_range 73 = .ok (.iload_n 3, 1) := by decide +kernel
theorem dX0_range_74 : decode cX0_range 74 = .ok (.iload 4, 2) := by decide +kernel
theorem dX0_range_76 : decode cX0_range 76 = .ok (.invokevirtual 93, 3) := by decide +kernel
theorem dX0_range_79 : decode cX0_range 79 = .ok (.iinc 5 1, 3) := by decide +kernel
theorem dX0_range_82 : decode cX0_range 82 = .ok (.goto (-79), 3) := by decide +kernel
theorem dX0_range_85 : decode cX0_range 85 = .ok (.iconst 3, 1) := by decide +kernel
theorem dX0_range_86 : decode cX0_range 86 = .ok (.istore 5, 2) := by decide +kernel
theorem dX0_range_88 : decode cX0_range 88 = .ok (.iload 5, 2) := by decide +kernel
theorem dX0_range_90 : decode cX0_range 90 = .ok (.iconst 5, 1) := by decide +kernel
theorem dX0_range_91 : decode cX0_range 91 = .ok (.if_icmp .ge 76, 3) := by decide +kernel
theorem dX0_range_94 : decode cX0_range 94 = .ok (.aload_n 0, 1) := by decide +kernel
theorem dX0_range_95 : decode cX0_range 95 = .ok (.iload 5, 2) := by decide +kernel
theorem dX0_range_97 : decode cX0_range 97 = .ok (.aload_n 0, 1) := by decide +kernel
theorem dX0_range_98 : decode cX0_range 98 = .ok (.getfield 7, 3) := by decide +kernel
theorem dX0_range_101 : decode cX0_range 101 = .ok (.bipush 12, 2) := by decide +kernel
theorem dX0_range_103 : decode cX0_range 103 = .ok (.iload 5, 2) := by decide +kernel
theorem dX0_range_105 : decode cX0_range 105 = .ok (.iadd, 1) := by decide +kernel
theorem dX0_range_106 : decode cX0_range 106 = .ok (.iaload, 1) := by decide +kernel
theorem dX0_range_107 : decode cX0_range 107 = .ok (.invokevirtual 97, 3) := by decide +kernel
theorem dX0_range_110 : decode cX0_range 110 = .ok (.iconst 0, 1) := by decide +kernel
theorem dX0_range_111 : decode cX0_range 111 = .ok (.istore 6, 2) := by decide +kernel
theorem dX0_range_113 : decode cX0_range 113 = .ok (.iload 6, 2) := by decide +kernel
theorem dX0_range_115 : decode cX0_range 115 = .ok (.iconst 3, 1) := by decide +kernel
theorem dX0_range_116 : decode cX0_range 116 = .ok (.if_icmp .ge 34, 3) := by decide +kernel
theorem dX0_range_119 : decode cX0_range 119 = .ok (.aload_n 0, 1) := by decide +kernel
theorem dX0_range_120 : decode cX0_range 120 = .ok (.iload 5, 2) := by decide +kernel
theorem dX0_range_122 : decode cX0_range 122 = .ok (.iload 6, 2) := by decide +kernel
theorem dX0_range_124 : decode cX0_range 124 = .ok (.aload_n 0, 1) := by decide +kernel
theorem dX0_range_125 : decode cX0_range 125 = .ok (.getfield 7, 3) := by decide +kernel
theorem dX0_range_128 : decode cX0_range 128 = .ok (.bipush 9, 2) := by decide +kernel
theorem dX0_range_130 : decode cX0_range 130 = .ok (.iconst 3, 1) := by decide +kernel
theorem dX0_range_131 : decode cX0_range 131 = .ok (.iload 5, 2) := by decide +kernel
theorem dX0_range_133 : decode cX0_range 133 = .ok (.iconst 3, 1) := by decide +kernel
theorem dX0_range_134 : decode cX0_range 134 = .ok (.isub, 1) := by decide +kernel
theorem dX0_range_135 : decode cX0_range 135 = .ok (.imul, 1) := by decide +kernel
theorem dX0_range_136 : decode cX0_range 136 = .ok (.iadd, 1) := by decide +kernel
theorem dX0_range_137 : decode cX0_range 137 = .ok (.iload 6, 2) := by decide +kernel
theorem dX0_range_139 : decode cX0_range 139 = .ok (.iadd, 1) := by decide +kernel
theorem dX0_range_140 : decode cX0_range 140 = .ok (.iaload, 1) := by decide +kernel
theorem dX0_range_141 : decode cX0_range 141 = .ok (.invokevirtual 100, 3) := by decide +kernel
theorem dX0_range_144 : decode cX0_range 144 = .ok (.iinc 6 1, 3) := by decide +kernel
theorem dX0_range_147 : decode cX0_range 147 = .ok (.goto (-34), 3) := by decide +kernel
theorem dX0_range_150 : decode cX0_range 150 = .ok (.aload_n 0, 1) := by decide +kernel
theorem dX0_range_151 : decode cX0_range 151 = .ok (.iload 5, 2) := by decide +kernel
theorem dX0_range_153 : decode cX0_range 153 = .ok (.iload_n 1, 1) := by decide +kernel
theorem dX0_range_154 : decode cX0_range 154 = .ok (.iload_n 2, 1) := by decide +kernel
theorem dX0_range_155 : decode cX0_range 155 = .ok (.iload_n 3, 1) := by decide +kernel
theorem dX0_range_156 : decode cX0_range 156 = .ok (.iload 4, 2) := by decide +kernel
theorem dX0_range_158 : decode cX0_range 158 = .ok (.invokevirtual 104, 3) := by decide +kernel
theorem dX0_range_161 : decode cX0_range 161 = .ok (.iinc 5 1, 3) := by decide +kernel
theorem dX0_range_164 : decode cX0_range 164 = .ok (.goto (-76), 3) := by decide +kernel
theorem dX0_range_167 : decode cX0_range 167 = .ok (.aload_n 0, 1) := by decide +kernel
theorem dX0_range_168 : decode cX0_range 168 = .ok (.iconst 5, 1) := by decide +kernel
theorem dX0_range_169 : decode cX0_range 169 = .ok (.aload_n 0, 1) := by decide +kernel
theorem dX0_range_170 : decode cX0_range 170 = .ok (.getfield 7, 3) := by decide +kernel
theorem dX0_range_173 : decode cX0_range 173 = .ok (.bipush 19, 2) := by decide +kernel
theorem dX0_range_175 : decode cX0_range 175 = .ok (.iaload, 1) := by decide +kernel
theorem dX0_range_176 : decode cX0_range 176 = .ok (.invokevirtual 97, 3) := by decide +kernel
theorem dX0_range_179 : decode cX0_range 179 = .ok (.iconst 3, 1) := by decide +kernel
theorem dX0_range_180 : decode cX0_range 180 = .ok (.istore 5, 2) := by decide +kernel
theorem dX0_range_182 : decode cX0_range 182 = .ok (.iload 5, 2) := by decide +kernel
theorem dX0_range_184 : decode cX0_range 184 = .ok (.iconst 5, 1) := by decide +kernel
theorem dX0_range_185 : decode cX0_range 185 = .ok (.if_icmp .ge 26, 3) := by decide +kernel
theorem dX0_range_188 : decode cX0_range 188 = .ok (.aload_n 0, 1) := by decide +kernel
theorem dX0_range_189 : decode cX0_range 189 = .ok (.iconst 5, 1) := by decide +kernel
theorem dX0_range_190 : decode cX0_range 190 = .ok (.iload 5, 2) := by decide +kernel
theorem dX0_range_192 : decode cX0_range 192 = .ok (.aload_n 0, 1) := by decide +kernel
theorem dX0_range_193 : decode cX0_range 193 = .ok (.getfield 7, 3) := by decide +kernel
theorem dX0_range_196 : decode cX0_range 196 = .ok (.bipush 14, 2) := by decide +kernel
theorem dX0_range_198 : decode cX0_range 198 = .ok (.iload 5, 2) := by decide +kernel
theorem dX0_range_200 : decode cX0_range 200 = .ok (.iadd, 1) := by decide +kernel
theorem dX0_range_201 : decode cX0_range 201 = .ok (.iaload, 1) := by decide +kernel
theorem dX0_range_202 : decode cX0_range 202 = .ok (.invokevirtual 100, 3) := by decide +kernel
theorem dX0_range_205 : decode cX0_range 205 = .ok (.iinc 5 1, 3) := by decide +kernel
theorem dX0_range_208 : decode cX0_range 208 = .ok (.goto (-26), 3) := by decide +kernel
theorem dX0_range_211 : decode cX0_range 211 = .ok (.aload_n 0, 1) := by decide +kernel
theorem dX0_range_212 : decode cX0_range 212 = .ok (.iconst 5, 1) := by decide +kernel
theorem dX0_range_213 : decode cX0_range 213 = .ok (.iload_n 1, 1) := by decide +kernel
theorem dX0_range_214 : decode cX0_range 214 = .ok (.iload_n 2, 1) := by decide +kernel
theorem dX0_range_215 : decode cX0_range 215 = .ok (.iload_n 3, 1) := by decide +kernel
theorem dX0_range_216 : decode cX0_range 216 = .ok (.iload 4, 2) := by decide +kernel
theorem dX0_range_218 : decode cX0_range 218 = .ok (.invokevirtual 104, 3) := by decide +kernel
theorem dX0_range_221 : decode cX0_range 221 = .ok (.return_, 1) := by decide +kernel
theorem dX0_exact_0 : decode cX0_exact 0 = .ok (.aload_n 0, 1) := by decide +kernel
theorem dX0_exact_1 : decode cX0_exact 1 = .ok (.getfield 22, 3) := by decide +kernel
theorem dX0_exact_4 : decode cX0_exact 4 = .ok (.iload_n 1, 1) := by decide +kernel
theorem dX0_exact_5 : decode cX0_exact 5 = .ok (.iaload, 1) := by decide +kernel
theorem dX0_exact_6 : decode cX0_exact 6 = .ok (.istore 6, 2) := by decide +kernel
theorem dX0_exact_8 : decode cX0_exact 8 = .ok (.aload_n 0, 1) := by decide +kernel
theorem dX0_exact_9 : decode cX0_exact 9 = .ok (.getfield 25, 3) := by decide +kernel
theorem dX0_exact_12 : decode cX0_exact 12 = .ok (.iload_n 1, 1) := by decide +kernel
theorem dX0_exact_13 : decode cX0_exact 13 = .ok (.iaload, 1) := by decide +kernel
theorem dX0_exact_14 : decode cX0_exact 14 = .ok (.istore 7, 2) := by decide +kernel
theorem dX0_exact_16 : decode cX0_exact 16 = .ok (.aload_n 0, 1) := by decide +kernel
theorem dX0_exact_17 : decode cX0_exact 17 = .ok (.getfield 16, 3) := by decide +kernel
theorem dX0_exact_20 : decode cX0_exact 20 = .ok (.iload_n 1, 1) := by decide +kernel
theorem dX0_exact_21 : decode cX0_exact 21 = .ok (.aload_n 0, 1) := by decide +kernel
theorem dX0_exact_22 : decode cX0_exact 22 = .ok (.getfield 28, 3) := by decide +kernel
theorem dX0_exact_25 : decode cX0_exact 25 = .ok (.iload_n 1, 1) := by decide +kernel
theorem dX0_exact_26 : decode cX0_exact 26 = .ok (.iaload, 1) := by decide +kernel
theorem dX0_exact_27 : decode cX0_exact 27 = .ok (.iload 6, 2) := by decide +kernel
theorem dX0_exact_29 : decode cX0_exact 29 = .ok (.ifCond .le 10, 3) := by decide +kernel
theorem dX0_exact_32 : decode cX0_exact 32 = .ok (.iload 6, 2) := by decide +kernel
theorem dX0_exact_34 : decode cX0_exact 34 = .ok (.iload_n 2, 1) := by decide +kernel
theorem dX0_exact_35 : decode cX0_exact 35 = .ok (.imul, 1) := by decide +kernel
theorem dX0_exact_36 : decode cX0_exact 36 = .ok (.goto 7, 3) := by decide +kernel
theorem dX0_exact_39 : decode cX0_exact 39 = .ok (.iload 6, 2) := by decide +kernel
theorem dX0_exact_41 : decode cX0_exact 41 = .ok (.iload_n 3, 1) := by decide +kernel
theorem dX0_exact_42 : decode cX0_exact 42 = .ok (.imul, 1) := by decide +kernel
theorem dX0_exact_43 : decode cX0_exact 43 = .ok (.iadd, 1) := by decide +kernel
theorem dX0_exact_44 : decode cX0_exact 44 = .ok (.iload 7, 2) := by decide +kernel
theorem dX0_exact_46 : decode cX0_exact 46 = .ok (.ifCond .le 11, 3) := by decide +kernel
theorem dX0_exact_49 : decode cX0_exact 49 = .ok (.iload 7, 2) := by decide +kernel
theorem dX0_exact_51 : decode cX0_exact 51 = .ok (.iload 4, 2) := by decide +kernel
theorem dX0_exact_53 : decode cX0_exact 53 = .ok (.imul, 1) := by decide +kernel
theorem dX0_exact_54 : decode cX0_exact 54 = .ok (.goto 8, 3) := by decide +kernel
theorem dX0_exact_57 : decode cX0_exact 57 = .ok (.iload 7, 2) := by decide +kernel
theorem dX0_exact_59 : decode cX0_exact 59 = .ok (.iload 5, 2) := by decide +kernel
theorem dX0_exact_61 : decode cX0_exact 61 = .ok (.imul, 1) := by decide +kernel
theorem dX0_exact_62 : decode cX0_exact 62 = .ok (.iadd, 1) := by decide +kernel
theorem dX0_exact_63 : decode cX0_exact 63 = .ok (.iastore, 1) := by decide +kernel
theorem dX0_exact_64 : decode cX0_exact 64 = .ok (.aload_n 0, 1) := by decide +kernel
theorem dX0_exact_65 : decode cX0_exact 65 = .ok (.getfield 19, 3) := by decide +kernel
theorem dX0_exact_68 : decode cX0_exact 68 = .ok (.iload_n 1, 1) := by decide +kernel
theorem dX0_exact_69 : decode cX0_exact 69 = .ok (.aload_n 0, 1) := by decide +kernel
theorem dX0_exact_70 : decode cX0_exact 70 = .ok (.getfield 28, 3) := by decide +kernel
theorem dX0_exact_73 : decode cX0_exact 73 = .ok (.iload_n 1, 1) := by decide +kernel
theorem dX0_exact_74 : decode cX0_exact 74 = .ok (.iaload, 1) := by decide +kernel
theorem dX0_exact_75 : decode cX0_exact 75 = .ok (.iload 6, 2) := by decide +kernel
theorem dX0_exact_77 : decode cX0_exact 77 = .ok (.ifCond .le 10, 3) := by decide +kernel
theorem dX0_exact_80 : decode cX0_exact 80 = .ok (.iload 6, 2) := by decide +kernel
theorem dX0_exact_82 : decode cX0_exact 82 = .ok (.iload_n 3, 1) := by decide +kernel
theorem dX0_exact_83 : decode cX0_exact 83 = .ok (.imul, 1) := by decide +kernel
theorem dX0_exact_84 : decode cX0_exact 84 = .ok (.goto 7, 3) := by decide +kernel
theorem dX0_exact_87 : decode cX0_exact 87 = .ok (.iload 6, 2) := by decide +kernel
theorem dX0_exact_89 : decode cX0_exact 89 = .ok (.iload_n 2, 1) := by decide +kernel
theorem dX0_exact_90 : decode cX0_exact 90 = .ok (.imul, 1) := by decide +kernel
theorem dX0_exact_91 : decode cX0_exact 91 = .ok (.iadd, 1) := by decide +kernel
theorem dX0_exact_92 : decode cX0_exact 92 = .ok (.iload 7, 2) := by decide +kernel
theorem dX0_exact_94 : decode cX0_exact 94 = .ok (.ifCond .le 11, 3) := by decide +kernel
theorem dX0_exact_97 : decode cX0_exact 97 = .ok (.iload 7, 2) := by decide +kernel
theorem dX0_exact_99 : decode cX0_exact 99 = .ok (.iload 5, 2) := by decide +kernel
theorem dX0_exact_101 : decode cX0_exact 101 = .ok (.imul, 1) := by decide +kernel
theorem dX0_exact_102 : decode cX0_exact 102 = .ok (.goto 8, 3) := by decide +kernel
theorem dX0_exact_105 : decode cX0_exact 105 = .ok (.iload 7, 2) := by decide +kernel
end
section
set_option maxRecDepth 100000
theorem dX0_exact_107 : decode cX0_exact 107 = .ok (.iload 4, 2) := by decide +kernel
theorem dX0_exact_109 : decode cX0_exact 109 = .ok (.imul, 1) := by decide +kernel
theorem dX0_exact_110 : decode cX0_exact 110 = .ok (.iadd, 1) := by decide +kernel
theorem dX0_exact_111 : decode cX0_exact 111 = .ok (.iastore, 1) := by decide +kernel
theorem dX0_exact_112 : decode cX0_exact 112 = .ok (.return_, 1) := by decide +kernel
theorem dX0_begin_0 : decode cX0_begin 0 = .ok (.aload_n 0, 1) := by decide +kernel
theorem dX0_begin_1 : decode cX0_begin 1 = .ok (.getfield 22, 3) := by decide +kernel
theorem dX0_begin_4 : decode cX0_begin 4 = .ok (.iload_n 1, 1) := by decide +kernel
theorem dX0_begin_5 : decode cX0_begin 5 = .ok (.iconst 0, 1) := by decide +kernel
theorem dX0_begin_6 : decode cX0_begin 6 = .ok (.iastore, 1) := by decide +kernel
theorem dX0_begin_7 : decode cX0_begin 7 = .ok (.aload_n 0, 1) := by decide +kernel
theorem dX0_begin_8 : decode cX0_begin 8 = .ok (.getfield 25, 3) := by decide +kernel
theorem dX0_begin_11 : decode cX0_begin 11 = .ok (.iload_n 1, 1) := by decide +kernel
theorem dX0_begin_12 : decode cX0_begin 12 = .ok (.iconst 0, 1) := by decide +kernel
theorem dX0_begin_13 : decode cX0_begin 13 = .ok (.iastore, 1) := by decide +kernel
theorem dX0_begin_14 : decode cX0_begin 14 = .ok (.aload_n 0, 1) := by decide +kernel
theorem dX0_begin_15 : decode cX0_begin 15 = .ok (.getfield 28, 3) := by decide +kernel
theorem dX0_begin_18 : decode cX0_begin 18 = .ok (.iload_n 1, 1) := by decide +kernel
theorem dX0_begin_19 : decode cX0_begin 19 = .ok (.iload_n 2, 1) := by decide +kernel
theorem dX0_begin_20 : decode cX0_begin 20 = .ok (.iastore, 1) := by decide +kernel
theorem dX0_begin_21 : decode cX0_begin 21 = .ok (.aload_n 0, 1) := by decide +kernel
theorem dX0_begin_22 : decode cX0_begin 22 = .ok (.getfield 16, 3) := by decide +kernel
theorem dX0_begin_25 : decode cX0_begin 25 = .ok (.iload_n 1, 1) := by decide +kernel
theorem dX0_begin_26 : decode cX0_begin 26 = .ok (.iconst 0, 1) := by decide +kernel
theorem dX0_begin_27 : decode cX0_begin 27 = .ok (.iastore, 1) := by decide +kernel
theorem dX0_begin_28 : decode cX0_begin 28 = .ok (.aload_n 0, 1) := by decide +kernel
theorem dX0_begin_29 : decode cX0_begin 29 = .ok (.getfield 19, 3) := by decide +kernel
theorem dX0_begin_32 : decode cX0_begin 32 = .ok (.iload_n 1, 1) := by decide +kernel
theorem dX0_begin_33 : decode cX0_begin 33 = .ok (.iconst 0, 1) := by decide +kernel
theorem dX0_begin_34 : decode cX0_begin 34 = .ok (.iastore, 1) := by decide +kernel
theorem dX0_begin_35 : decode cX0_begin 35 = .ok (.aload_n 0, 1) := by decide +kernel
theorem dX0_begin_36 : decode cX0_begin 36 = .ok (.getfield 31, 3) := by decide +kernel
theorem dX0_begin_39 : decode cX0_begin 39 = .ok (.iload_n 1, 1) := by decide +kernel
theorem dX0_begin_40 : decode cX0_begin 40 = .ok (.iconst 1, 1) := by decide +kernel
theorem dX0_begin_41 : decode cX0_begin 41 = .ok (.bastore, 1) := by decide +kernel
theorem dX0_begin_42 : decode cX0_begin 42 = .ok (.return_, 1) := by decide +kernel
theorem dX0_bring_0 : decode cX0_bring 0 = .ok (.iload_n 3, 1) := by decide +kernel
theorem dX0_bring_1 : decode cX0_bring 1 = .ok (.ifCond .eq 12, 3) := by decide +kernel
theorem dX0_bring_4 : decode cX0_bring 4 = .ok (.aload_n 0, 1) := by decide +kernel
theorem dX0_bring_5 : decode cX0_bring 5 = .ok (.getfield 19, 3) := by decide +kernel
theorem dX0_bring_8 : decode cX0_bring 8 = .ok (.iload_n 2, 1) := by decide +kernel
theorem dX0_bring_9 : decode cX0_bring 9 = .ok (.iaload, 1) := by decide +kernel
theorem dX0_bring_10 : decode cX0_bring 10 = .ok (.ifCond .gt 4, 3) := by decide +kernel
theorem dX0_bring_13 : decode cX0_bring 13 = .ok (.return_, 1) := by decide +kernel
theorem dX0_bring_14 : decode cX0_bring 14 = .ok (.aload_n 0, 1) := by decide +kernel
theorem dX0_bring_15 : decode cX0_bring 15 = .ok (.getfield 31, 3) := by decide +kernel
theorem dX0_bring_18 : decode cX0_bring 18 = .ok (.iload_n 2, 1) := by decide +kernel
theorem dX0_bring_19 : decode cX0_bring 19 = .ok (.baload, 1) := by decide +kernel
theorem dX0_bring_20 : decode cX0_bring 20 = .ok (.ifCond .eq 64, 3) := by decide +kernel
theorem dX0_bring_23 : decode cX0_bring 23 = .ok (.aload_n 0, 1) := by decide +kernel
theorem dX0_bring_24 : decode cX0_bring 24 = .ok (.getfield 16, 3) := by decide +kernel
theorem dX0_bring_27 : decode cX0_bring 27 = .ok (.iload_n 2, 1) := by decide +kernel
theorem dX0_bring_28 : decode cX0_bring 28 = .ok (.iaload, 1) := by decide +kernel
theorem dX0_bring_29 : decode cX0_bring 29 = .ok (.ifCond .lt 55, 3) := by decide +kernel
theorem dX0_bring_32 : decode cX0_bring 32 = .ok (.aload_n 0, 1) := by decide +kernel
theorem dX0_bring_33 : decode cX0_bring 33 = .ok (.getfield 22, 3) := by decide +kernel
theorem dX0_bring_36 : decode cX0_bring 36 = .ok (.iload_n 1, 1) := by decide +kernel
theorem dX0_bring_37 : decode cX0_bring 37 = .ok (.dup2, 1) := by decide +kernel
theorem dX0_bring_38 : decode cX0_bring 38 = .ok (.iaload, 1) := by decide +kernel
theorem dX0_bring_39 : decode cX0_bring 39 = .ok (.iload_n 3, 1) := by decide +kernel
theorem dX0_bring_40 : decode cX0_bring 40 = .ok (.aload_n 0, 1) := by decide +kernel
theorem dX0_bring_41 : decode cX0_bring 41 = .ok (.getfield 22, 3) := by decide +kernel
theorem dX0_bring_44 : decode cX0_bring 44 = .ok (.iload_n 2, 1) := by decide +kernel
theorem dX0_bring_45 : decode cX0_bring 45 = .ok (.iaload, 1) := by decide +kernel
theorem dX0_bring_46 : decode cX0_bring 46 = .ok (.imul, 1) := by decide +kernel
theorem dX0_bring_47 : decode cX0_bring 47 = .ok (.iadd, 1) := by decide +kernel
theorem dX0_bring_48 : decode cX0_bring 48 = .ok (.iastore, 1) := by decide +kernel
theorem dX0_bring_49 : decode cX0_bring 49 = .ok (.aload_n 0, 1) := by decide +kernel
theorem dX0_bring_50 : decode cX0_bring 50 = .ok (.getfield 25, 3) := by decide +kernel
theorem dX0_bring_53 : decode cX0_bring 53 = .ok (.iload_n 1, 1) := by decide +kernel
theorem dX0_bring_54 : decode cX0_bring 54 = .ok (.dup2, 1) := by decide +kernel
theorem dX0_bring_55 : decode cX0_bring 55 = .ok (.iaload, 1) := by decide +kernel
theorem dX0_bring_56 : decode cX0_bring 56 = .ok (.iload_n 3, 1) := by decide +kernel
theorem dX0_bring_57 : decode cX0_bring 57 = .ok (.aload_n 0, 1) := by decide +kernel
theorem dX0_bring_58 : decode cX0_bring 58 = .ok (.getfield 25, 3) := by decide +kernel
theorem dX0_bring_61 : decode cX0_bring 61 = .ok (.iload_n 2, 1) := by decide +kernel
theorem dX0_bring_62 : decode cX0_bring 62 = .ok (.iaload, 1) := by decide +kernel
theorem dX0_bring_63 : decode cX0_bring 63 = .ok (.imul, 1) := by decide +kernel
theorem dX0_bring_64 : decode cX0_bring 64 = .ok (.iadd, 1) := by decide +kernel
theorem dX0_bring_65 : decode cX0_bring 65 = .ok (.iastore, 1) := by decide +kernel
theorem dX0_bring_66 : decode cX0_bring 66 = .ok (.aload_n 0, 1) := by decide +kernel
theorem dX0_bring_67 : decode cX0_bring 67 = .ok (.getfield 28, 3) := by decide +kernel
theorem dX0_bring_70 : decode cX0_bring 70 = .ok (.iload_n 1, 1) := by decide +kernel
theorem dX0_bring_71 : decode cX0_bring 71 = .ok (.dup2, 1) := by decide +kernel
theorem dX0_bring_72 : decode cX0_bring 72 = .ok (.iaload, 1) := by decide +kernel
theorem dX0_bring_73 : decode cX0_bring 73 = .ok (.iload_n 3, 1) := by decide +kernel
theorem dX0_bring_74 : decode cX0_bring 74 = .ok (.aload_n 0, 1) := by decide +kernel
theorem dX0_bring_75 : decode cX0_bring 75 = .ok (.getfield 28, 3) := by decide +kernel
theorem dX0_bring_78 : decode cX0_bring 78 = .ok (.iload_n 2, 1) := by decide +kernel
theorem dX0_bring_79 : decode cX0_bring 79 = .ok (.iaload, 1) := by decide +kernel
theorem dX0_bring_80 : decode cX0_bring 80 = .ok (.imul, 1) := by decide +kernel
theorem dX0_bring_81 : decode cX0_bring 81 = .ok (.iadd, 1) := by decide +kernel
theorem dX0_bring_82 : decode cX0_bring 82 = .ok (.iastore, 1) := by decide +kernel
theorem dX0_bring_83 : decode cX0_bring 83 = .ok (.return_, 1) := by decide +kernel
theorem dX0_bring_84 : decode cX0_bring 84 = .ok (.aload_n 0, 1) := by decide +kernel
theorem dX0_bring_85 : decode cX0_bring 85 = .ok (.getfield 16, 3) := by decide +kernel
theorem dX0_bring_88 : decode cX0_bring 88 = .ok (.iload_n 2, 1) := by decide +kernel
theorem dX0_bring_89 : decode cX0_bring 89 = .ok (.iaload, 1) := by decide +kernel
theorem dX0_bring_90 : decode cX0_bring 90 = .ok (.ifCond .le 12, 3) := by decide +kernel
theorem dX0_bring_93 : decode cX0_bring 93 = .ok (.aload_n 0, 1) := by decide +kernel
theorem dX0_bring_94 : decode cX0_bring 94 = .ok (.getfield 16, 3) := by decide +kernel
theorem dX0_bring_97 : decode cX0_bring 97 = .ok (.iload_n 2, 1) := by decide +kernel
theorem dX0_bring_98 : decode cX0_bring 98 = .ok (.iaload, 1) := by decide +kernel
theorem dX0_bring_99 : decode cX0_bring 99 = .ok (.goto 4, 3) := by decide +kernel
theorem dX0_bring_102 : decode cX0_bring 102 = .ok (.iconst 0, 1) := by decide +kernel
theorem dX0_bring_103 : decode cX0_bring 103 = .ok (.istore 4, 2) := by decide +kernel
theorem dX0_bring_105 : decode cX0_bring 105 = .ok (.aload_n 0, 1) := by decide +kernel
theorem dX0_bring_106 : decode cX0_bring 106 = .ok (.getfield 19, 3) := by decide +kernel
theorem dX0_bring_109 : decode cX0_bring 109 = .ok (.iload_n 2, 1) := by decide +kernel
theorem dX0_bring_110 : decode cX0_bring 110 = .ok (.iaload, 1) := by decide +kernel
theorem dX0_bring_111 : decode cX0_bring 111 = .ok (.istore 5, 2) := by decide +kernel
theorem dX0_bring_113 : decode cX0_bring 113 = .ok (.aload_n 0, 1) := by decide +kernel
theorem dX0_bring_114 : decode cX0_bring 114 = .ok (.getfield 16, 3) := by decide +kernel
theorem dX0_bring_117 : decode cX0_bring 117 = .ok (.iload_n 1, 1) := by decide +kernel
theorem dX0_bring_118 : decode cX0_bring 118 = .ok (.dup2, 1) := by decide +kernel
theorem dX0_bring_119 : decode cX0_bring 119 = .ok (.iaload, 1) := by decide +kernel
theorem dX0_bring_120 : decode cX0_bring 120 = .ok (.iload_n 3, 1) := by decide +kernel
theorem dX0_bring_121 : decode cX0_bring 121 = .ok (.ifCond .le 10, 3) := by decide +kernel
theorem dX0_bring_124 : decode cX0_bring 124 = .ok (.iload_n 3, 1) := by decide +kernel
theorem dX0_bring_125 : decode cX0_bring 125 = .ok (.iload 4, 2) := by decide +kernel
theorem dX0_bring_127 : decode cX0_bring 127 = .ok (.imul, 1) := by decide +kernel
theorem dX0_bring_128 : decode cX0_bring 128 = .ok (.goto 7, 3) := by decide +kernel
theorem dX0_bring_131 : decode cX0_bring 131 = .ok (.iload_n 3, 1) := by decide +kernel
theorem dX0_bring_132 : decode cX0_bring 132 = .ok (.iload 5, 2) := by decide +kernel
theorem dX0_bring_134 : decode cX0_bring 134 = .ok (.imul, 1) := by decide +kernel
theorem dX0_bring_135 : decode cX0_bring 135 = .ok (.iadd, 1) := by decide +kernel
theorem dX0_bring_136 : decode cX0_bring 136 = .ok (.iastore, 1) := by decide +kernel
theorem dX0_bring_137 : decode cX0_bring 137 = .ok (.aload_n 0, 1) := by decide +kernel
theorem dX0_bring_138 : decode cX0_bring 138 = .ok (.getfield 19, 3) := by decide +kernel
theorem dX0_bring_141 : decode cX0_bring 141 = .ok (.iload_n 1, 1) := by decide +kernel
theorem dX0_bring_142 : decode cX0_bring 142 = .ok (.dup2, 1) := by decide +kernel
theorem dX0_bring_143 : decode cX0_bring 143 = .ok (.iaload, 1) := by decide +kernel
theorem dX0_bring_144 : decode cX0_bring 144 = .ok (.iload_n 3, 1) := by decide +kernel
theorem dX0_bring_145 : decode cX0_bring 145 = .ok (.ifCond .le 10, 3) := by decide +kernel
theorem dX0_bring_148 : decode cX0_bring 148 = .ok (.iload_n 3, 1) := by decide +kernel
theorem dX0_bring_149 : decode cX0_bring 149 = .ok (.iload 5, 2) := by decide +kernel
theorem dX0_bring_151 : decode cX0_bring 151 = .ok (.imul, 1) := by decide +kernel
theorem dX0_bring_152 : decode cX0_bring 152 = .ok (.goto 7, 3) := by decide +kernel
theorem dX0_bring_155 : decode cX0_bring 155 = .ok (.iload_n 3, 1) := by decide +kernel
theorem dX0_bring_156 : decode cX0_bring 156 = .ok (.iload 4, 2) := by decide +kernel
theorem dX0_bring_158 : decode cX0_bring 158 = .ok (.imul, 1) := by decide +kernel
theorem dX0_bring_159 : decode cX0_bring 159 = .ok (.iadd, 1) := by decide +kernel
theorem dX0_bring_160 : decode cX0_bring 160 = .ok (.iastore, 1) := by decide +kernel
theorem dX0_bring_161 : decode cX0_bring 161 = .ok (.aload_n 0, 1) := by decide +kernel
theorem dX0_bring_162 : decode cX0_bring 162 = .ok (.getfield 31, 3) := by decide +kernel
theorem dX0_bring_165 : decode cX0_bring 165 = .ok (.iload_n 1, 1) := by decide +kernel
theorem dX0_bring_166 : decode cX0_bring 166 = .ok (.iconst 0, 1) := by decide +kernel
theorem dX0_bring_167 : decode cX0_bring 167 = .ok (.bastore, 1) := by decide +kernel
theorem dX0_bring_168 : decode cX0_bring 168 = .ok (.return_, 1) := by decide +kernel
theorem dX0_finish_0 : decode cX0_finish 0 = .ok (.aload_n 0, 1) := by decide +kernel
theorem dX0_finish_1 : decode cX0_finish 1 = .ok (.getfield 16, 3) := by decide +kernel
theorem dX0_finish_4 : decode cX0_finish 4 = .ok (.iload_n 1, 1) := by decide +kernel
theorem dX0_finish_5 : decode cX0_finish 5 = .ok (.iaload, 1) := by decide +kernel
theorem dX0_finish_6 : decode cX0_finish 6 = .ok (.istore 6, 2) := by decide +kernel
theorem dX0_finish_8 : decode cX0_finish 8 = .ok (.aload_n 0, 1) := by decide +kernel
theorem dX0_finish_9 : decode cX0_finish 9 = .ok (.getfield 19, 3) := by decide +kernel
theorem dX0_finish_12 : decode cX0_finish 12 = .ok (.iload_n 1, 1) := by decide +kernel
theorem dX0_finish_13 : decode cX0_finish 13 = .ok (.iaload, 1) := by decide +kernel
theorem dX0_finish_14 : decode cX0_finish 14 = .ok (.istore 7, 2) := by decide +kernel
theorem dX0_finish_16 : decode cX0_finish 16 = .ok (.aload_n 0, 1) := by decide +kernel
theorem dX0_finish_17 : decode cX0_finish 17 = .ok (.iload_n 1, 1) := by decide +kernel
theorem dX0_finish_18 : decode cX0_finish 18 = .ok (.iload_n 2, 1) := by decide +kernel
theorem dX0_finish_19 : decode cX0_finish 19 = .ok (.iload_n 3, 1) := by decide +kernel
theorem dX0_finish_20 : decode cX0_finish 20 = .ok (.iload 4, 2) := by decide +kernel
theorem dX0_finish_22 : decode cX0_finish 22 = .ok (.iload 5, 2) := by decide +kernel
theorem dX0_finish_24 : decode cX0_finish 24 = .ok (.invokevirtual 93, 3) := by decide +kernel
theorem dX0_finish_27 : decode cX0_finish 27 = .ok (.aload_n 0, 1) := by decide +kernel
theorem dX0_finish_28 : decode cX0_finish 28 = .ok (.getfield 16, 3) := by decide +kernel
theorem dX0_finish_31 : decode cX0_finish 31 = .ok (.iload_n 1, 1) := by decide +kernel
theorem dX0_finish_32 : decode cX0_finish 32 = .ok (.dup2, 1) := by decide +kernel
theorem dX0_finish_33 : decode cX0_finish 33 = .ok (.iaload, 1) := by decide +kernel
theorem dX0_finish_34 : decode cX0_finish 34 = .ok (.iload 6, 2) := by decide +kernel
theorem dX0_finish_36 : decode cX0_finish 36 = .ok (.iadd, 1) := by decide +kernel
theorem dX0_finish_37 : decode cX0_finish 37 = .ok (.iastore, 1) := by decide +kernel
theorem dX0_finish_38 : decode cX0_finish 38 = .ok (.aload_n 0, 1) := by decide +kernel
theorem dX0_finish_39 : decode cX0_finish 39 = .ok (.getfield 19, 3) := by decide +kernel
theorem dX0_finish_42 : decode cX0_finish 42 = .ok (.iload_n 1, 1) := by decide +kernel
theorem dX0_finish_43 : decode cX0_finish 43 = .ok (.dup2, 1) := by decide +kernel
theorem dX0_finish_44 : decode cX0_finish 44 = .ok (.iaload, 1) := by decide +kernel
theorem dX0_finish_45 : decode cX0_finish 45 = .ok (.iload 7, 2) := by decide +kernel
theorem dX0_finish_47 : decode cX0_finish 47 = .ok (.iadd, 1) := by decide +kernel
theorem dX0_finish_48 : decode cX0_finish 48 = .ok (.iastore, 1) := by decide +kernel
theorem dX0_finish_49 : decode cX0_finish 49 = .ok (.return_, 1) := by decide +kernel
theorem dX0_isPoint_0 : decode cX0_isPoint 0 = .ok (.aload_n 0, 1) := by decide +kernel
theorem dX0_isPoint_1 : decode cX0_isPoint 1 = .ok (.getfield 35, 3) := by decide +kernel
theorem dX0_isPoint_4 : decode cX0_isPoint 4 = .ok (.iload_n 1, 1) := by decide +kernel
theorem dX0_isPoint_5 : decode cX0_isPoint 5 = .ok (.iaload, 1) := by decide +kernel
theorem dX0_isPoint_6 : decode cX0_isPoint 6 = .ok (.aload_n 0, 1) := by decide +kernel
theorem dX0_isPoint_7 : decode cX0_isPoint 7 = .ok (.getfield 38, 3) := by decide +kernel
theorem dX0_isPoint_10 : decode cX0_isPoint 10 = .ok (.iload_n 1, 1) := by decide +kernel
theorem dX0_isPoint_11 : decode cX0_isPoint 11 = .ok (.iaload, 1) := by decide +kernel
theorem dX0_isPoint_12 : decode cX0_isPoint 12 = .ok (.if_icmp .ne 22, 3) := by decide +kernel
theorem dX0_isPoint_15 : decode cX0_isPoint 15 = .ok (.aload_n 0, 1) := by decide +kernel
theorem dX0_isPoint_16 : decode cX0_isPoint 16 = .ok (.getfield 41, 3) := by decide +kernel
theorem dX0_isPoint_19 : decode cX0_isPoint 19 = .ok (.iload_n 1, 1) := by decide +kernel
theorem dX0_isPoint_20 : decode cX0_isPoint 20 = .ok (.iaload, 1) := by decide +kernel
theorem dX0_isPoint_21 : decode cX0_isPoint 21 = .ok (.aload_n 0, 1) := by decide +kernel
theorem dX0_isPoint_22 : decode cX0_isPoint 22 = .ok (.getfield 44, 3) := by decide +kernel
theorem dX0_isPoint_25 : decode cX0_isPoint 25 = .ok (.iload_n 1, 1) := by decide +kernel
theorem dX0_isPoint_26 : decode cX0_isPoint 26 = .ok (.iaload, 1) := by decide +kernel
theorem dX0_isPoint_27 : decode cX0_isPoint 27 = .ok (.if_icmp .ne 7, 3) := by decide +kernel
theorem dX0_isPoint_30 : decode cX0_isPoint 30 = .ok (.iconst 1, 1) := by decide +kernel
theorem dX0_isPoint_31 : decode cX0_isPoint 31 = .ok (.goto 4, 3) := by decide +kernel
theorem dX0_isPoint_34 : decode cX0_isPoint 34 = .ok (.iconst 0, 1) := by decide +kernel
theorem dX0_isPoint_35 : decode cX0_isPoint 35 = .ok (.ireturn, 1) := by decide +kernel
theorem dX0_cut_0 : decode cX0_cut 0 = .ok (.aload_n 0, 1) := by decide +kernel
theorem dX0_cut_1 : decode cX0_cut 1 = .ok (.getfield 35, 3) := by decide +kernel
theorem dX0_cut_4 : decode cX0_cut 4 = .ok (.iload_n 1, 1) := by decide +kernel
theorem dX0_cut_5 : decode cX0_cut 5 = .ok (.iaload, 1) := by decide +kernel
theorem dX0_cut_6 : decode cX0_cut 6 = .ok (.aload_n 0, 1) := by decide +kernel
theorem dX0_cut_7 : decode cX0_cut 7 = .ok (.getfield 38, 3) := by decide +kernel
theorem dX0_cut_10 : decode cX0_cut 10 = .ok (.iload_n 1, 1) := by decide +kernel
theorem dX0_cut_11 : decode cX0_cut 11 = .ok (.iaload, 1) := by decide +kernel
theorem dX0_cut_12 : decode cX0_cut 12 = .ok (.if_icmp .ge 7, 3) := by decide +kernel
theorem dX0_cut_15 : decode cX0_cut 15 = .ok (.iconst 1, 1) := by decide +kernel
theorem dX0_cut_16 : decode cX0_cut 16 = .ok (.goto 4, 3) := by decide +kernel
theorem dX0_cut_19 : decode cX0_cut 19 = .ok (.iconst 0, 1) := by decide +kernel
theorem dX0_cut_20 : decode cX0_cut 20 = .ok (.istore_n 2, 1) := by decide +kernel
theorem dX0_cut_21 : decode cX0_cut 21 = .ok (.iload_n 2, 1) := by decide +kernel
theorem dX0_cut_22 : decode cX0_cut 22 = .ok (.ifCond .ne 19, 3) := by decide +kernel
theorem dX0_cut_25 : decode cX0_cut 25 = .ok (.aload_n 0, 1) := by decide +kernel
theorem dX0_cut_26 : decode cX0_cut 26 = .ok (.getfield 41, 3) := by decide +kernel
theorem dX0_cut_29 : decode cX0_cut 29 = .ok (.iload_n 1, 1) := by decide +kernel
theorem dX0_cut_30 : decode cX0_cut 30 = .ok (.iaload, 1) := by decide +kernel
theorem dX0_cut_31 : decode cX0_cut 31 = .ok (.aload_n 0, 1) := by decide +kernel
theorem dX0_cut_32 : decode cX0_cut 32 = .ok (.getfield 44, 3) := by decide +kernel
theorem dX0_cut_35 : decode cX0_cut 35 = .ok (.iload_n 1, 1) := by decide +kernel
theorem dX0_cut_36 : decode cX0_cut 36 = .ok (.iaload, 1) := by decide +kernel
theorem dX0_cut_37 : decode cX0_cut 37 = .ok (.if_icmp .ne 4, 3) := by decide +kernel
theorem dX0_cut_40 : decode cX0_cut 40 = .ok (.return_, 1) := by decide +kernel
theorem dX0_cut_41 : decode cX0_cut 41 = .ok (.iload_n 2, 1) := by decide +kernel
theorem dX0_cut_42 : decode cX0_cut 42 = .ok (.ifCond .eq 12, 3) := by decide +kernel
theorem dX0_cut_45 : decode cX0_cut 45 = .ok (.aload_n 0, 1) := by decide +kernel
theorem dX0_cut_46 : decode cX0_cut 46 = .ok (.getfield 35, 3) := by decide +kernel
theorem dX0_cut_49 : decode cX0_cut 49 = .ok (.iload_n 1, 1) := by decide +kernel
theorem dX0_cut_50 : decode cX0_cut 50 = .ok (.iaload, 1) := by decide +kernel
theorem dX0_cut_51 : decode cX0_cut 51 = .ok (.goto 9, 3) := by decide +kernel
theorem dX0_cut_54 : decode cX0_cut 54 = .ok (.aload_n 0, 1) := by decide +kernel
theorem dX0_cut_55 : decode cX0_cut 55 = .ok (.getfield 41, 3) := by decide +kernel
theorem dX0_cut_58 : decode cX0_cut 58 = .ok (.iload_n 1, 1) := by decide +kernel
theorem dX0_cut_59 : decode cX0_cut 59 = .ok (.iaload, 1) := by decide +kernel
theorem dX0_cut_60 : decode cX0_cut 60 = .ok (.istore_n 3, 1) := by decide +kernel
theorem dX0_cut_61 : decode cX0_cut 61 = .ok (.iload_n 2, 1) := by decide +kernel
theorem dX0_cut_62 : decode cX0_cut 62 = .ok (.ifCond .eq 12, 3) := by decide +kernel
theorem dX0_cut_65 : decode cX0_cut 65 = .ok (.aload_n 0, 1) := by decide +kernel
theorem dX0_cut_66 : decode cX0_cut 66 = .ok (.getfield 38, 3) := by decide +kernel
theorem dX0_cut_69 : decode cX0_cut 69 = .ok (.iload_n 1, 1) := by decide +kernel
theorem dX0_cut_70 : decode cX0_cut 70 = .ok (.iaload, 1) := by decide +kernel
theorem dX0_cut_71 : decode cX0_cut 71 = .ok (.goto 9, 3) := by decide +kernel
theorem dX0_cut_74 : decode cX0_cut 74 = .ok (.aload_n 0, 1) := by decide +kernel
theorem dX0_cut_75 : decode cX0_cut 75 = .ok (.getfield 44, 3) := by decide +kernel
theorem dX0_cut_78 : decode cX0_cut 78 = .ok (.iload_n 1, 1) := by decide +kernel
theorem dX0_cut_79 : decode cX0_cut 79 = .ok (.iaload, 1) := by decide +kernel
theorem dX0_cut_80 : decode cX0_cut 80 = .ok (.istore 4, 2) := by decide +kernel
theorem dX0_cut_82 : decode cX0_cut 82 = .ok (.iload_n 3, 1) := by decide +kernel
theorem dX0_cut_83 : decode cX0_cut 83 = .ok (.iload 4, 2) := by decide +kernel
theorem dX0_cut_85 : decode cX0_cut 85 = .ok (.iadd, 1) := by decide +kernel
theorem dX0_cut_86 : decode cX0_cut 86 = .ok (.iconst 1, 1) := by decide +kernel
theorem dX0_cut_87 : decode cX0_cut 87 = .ok (.ishr, 1) := by decide +kernel
theorem dX0_cut_88 : decode cX0_cut 88 = .ok (.istore 5, 2) := by decide +kernel
theorem dX0_cut_90 : decode cX0_cut 90 = .ok (.aload_n 0, 1) := by decide +kernel
theorem dX0_cut_91 : decode cX0_cut 91 = .ok (.getfield 35, 3) := by decide +kernel
theorem dX0_cut_94 : decode cX0_cut 94 = .ok (.iload_n 1, 1) := by decide +kernel
theorem dX0_cut_95 : decode cX0_cut 95 = .ok (.iconst 1, 1) := by decide +kernel
theorem dX0_cut_96 : decode cX0_cut 96 = .ok (.iadd, 1) := by decide +kernel
theorem dX0_cut_97 : decode cX0_cut 97 = .ok (.aload_n 0, 1) := by decide +kernel
theorem dX0_cut_98 : decode cX0_cut 98 = .ok (.getfield 35, 3) := by decide +kernel
theorem dX0_cut_101 : decode cX0_cut 101 = .ok (.iload_n 1, 1) := by decide +kernel
theorem dX0_cut_102 : decode cX0_cut 102 = .ok (.iaload, 1) := by decide +kernel
theorem dX0_cut_103 : decode cX0_cut 103 = .ok (.iastore, 1) := by decide +kernel
theorem dX0_cut_104 : decode cX0_cut 104 = .ok (.aload_n 0, 1) := by decide +kernel
theorem dX0_cut_105 : decode cX0_cut 105 = .ok (.getfield 38, 3) := by decide +kernel
theorem dX0_cut_108 : decode cX0_cut 108 = .ok (.iload_n 1, 1) := by decide +kernel
theorem dX0_cut_109 : decode cX0_cut 109 = .ok (.iconst 1, 1) := by decide +kernel
theorem dX0_cut_110 : decode cX0_cut 110 = .ok (.iadd, 1) := by decide +kernel
theorem dX0_cut_111 : decode cX0_cut 111 = .ok (.iload_n 2, 1) := by decide +kernel
theorem dX0_cut_112 : decode cX0_cut 112 = .ok (.ifCond .eq 8, 3) := by decide +kernel
theorem dX0_cut_115 : decode cX0_cut 115 = .ok (.iload 5, 2) := by decide +kernel
theorem dX0_cut_117 : decode cX0_cut 117 = .ok (.goto 9, 3) := by decide +kernel
theorem dX0_cut_120 : decode cX0_cut 120 = .ok (.aload_n 0, 1) := by decide +kernel
theorem dX0_cut_121 : decode cX0_cut 121 = .ok (.getfield 38, 3) := by decide +kernel
theorem dX0_cut_124 : decode cX0_cut 124 = .ok (.iload_n 1, 1) := by decide +kernel
theorem dX0_cut_125 : decode cX0_cut 125 = .ok (.iaload, 1) := by decide +kernel
theorem dX0_cut_126 : decode cX0_cut 126 = .ok (.iastore, 1) := by decide +kernel
theorem dX0_cut_127 : decode cX0_cut 127 = .ok (.aload_n 0, 1) := by decide +kernel
theorem dX0_cut_128 : decode cX0_cut 128 = .ok (.getfield 41, 3) := by decide +kernel
theorem dX0_cut_131 : decode cX0_cut 131 = .ok (.iload_n 1, 1) := by decide +kernel
theorem dX0_cut_132 : decode cX0_cut 132 = .ok (.iconst 1, 1) := by decide +kernel
theorem dX0_cut_133 : decode cX0_cut 133 = .ok (.iadd, 1) := by decide +kernel
theorem dX0_cut_134 : decode cX0_cut 134 = .ok (.aload_n 0, 1) := by decide +kernel
theorem dX0_cut_135 : decode cX0_cut 135 = .ok (.getfield 41, 3) := by decide +kernel
theorem dX0_cut_138 : decode cX0_cut 138 = .ok (.iload_n 1, 1) := by decide +kernel
theorem dX0_cut_139 : decode cX0_cut 139 = .ok (.iaload, 1) := by decide +kernel
theorem dX0_cut_140 : decode cX0_cut 140 = .ok (.iastore, 1) := by decide +kernel
theorem dX0_cut_141 : decode cX0_cut 141 = .ok (.aload_n 0, 1) := by decide +kernel
theorem dX0_cut_142 : decode cX0_cut 142 = .ok (.getfield 44, 3) := by decide +kernel
theorem dX0_cut_145 : decode cX0_cut 145 = .ok (.iload_n 1, 1) := by decide +kernel
theorem dX0_cut_146 : decode cX0_cut 146 = .ok (.iconst 1, 1) := by decide +kernel
theorem dX0_cut_147 : decode cX0_cut 147 = .ok (.iadd, 1) := by decide +kernel
theorem dX0_cut_148 : decode cX0_cut 148 = .ok (.iload_n 2, 1) := by decide +kernel
theorem dX0_cut_149 : decode cX0_cut 149 = .ok (.ifCond .eq 12, 3) := by decide +kernel
theorem dX0_cut_152 : decode cX0_cut 152 = .ok (.aload_n 0, 1) := by decide +kernel
theorem dX0_cut_153 : decode cX0_cut 153 = .ok (.getfield 44, 3) := by decide +kernel
theorem dX0_cut_156 : decode cX0_cut 156 = .ok (.iload_n 1, 1) := by decide +kernel
theorem dX0_cut_157 : decode cX0_cut 157 = .ok (.iaload, 1) := by decide +kernel
theorem dX0_cut_158 : decode cX0_cut 158 = .ok (.goto 5, 3) := by decide +kernel
theorem dX0_cut_161 : decode cX0_cut 161 = .ok (.iload 5, 2) := by decide +kernel
theorem dX0_cut_163 : decode cX0_cut 163 = .ok (.iastore, 1) := by decide +kernel
theorem dX0_cut_164 : decode cX0_cut 164 = .ok (.aload_n 0, 1) := by decide +kernel
theorem dX0_cut_165 : decode cX0_cut 165 = .ok (.getfield 35, 3) := by decide +kernel
theorem dX0_cut_168 : decode cX0_cut 168 = .ok (.iload_n 1, 1) := by decide +kernel
theorem dX0_cut_169 : decode cX0_cut 169 = .ok (.iload_n 2, 1) := by decide +kernel
theorem dX0_cut_170 : decode cX0_cut 170 = .ok (.ifCond .eq 10, 3) := by decide +kernel
theorem dX0_cut_173 : decode cX0_cut 173 = .ok (.iload 5, 2) := by decide +kernel
theorem dX0_cut_175 : decode cX0_cut 175 = .ok (.iconst 1, 1) := by decide +kernel
theorem dX0_cut_176 : decode cX0_cut 176 = .ok (.iadd, 1) := by decide +kernel
theorem dX0_cut_177 : decode cX0_cut 177 = .ok (.goto 9, 3) := by decide +kernel
theorem dX0_cut_180 : decode cX0_cut 180 = .ok (.aload_n 0, 1) := by decide +kernel
theorem dX0_cut_181 : decode cX0_cut 181 = .ok (.getfield 35, 3) := by decide +kernel
theorem dX0_cut_184 : decode cX0_cut 184 = .ok (.iload_n 1, 1) := by decide +kernel
theorem dX0_cut_185 : decode cX0_cut 185 = .ok (.iaload, 1) := by decide +kernel
theorem dX0_cut_186 : decode cX0_cut 186 = .ok (.iastore, 1) := by decide +kernel
theorem dX0_cut_187 : decode cX0_cut 187 = .ok (.aload_n 0, 1) := by decide +kernel
theorem dX0_cut_188 : decode cX0_cut 188 = .ok (.getfield 41, 3) := by decide +kernel
theorem dX0_cut_191 : decode cX0_cut 191 = .ok (.iload_n 1, 1) := by decide +kernel
theorem dX0_cut_192 : decode cX0_cut 192 = .ok (.iload_n 2, 1) := by decide +kernel
theorem dX0_cut_193 : decode cX0_cut 193 = .ok (.ifCond .eq 12, 3) := by decide +kernel
theorem dX0_cut_196 : decode cX0_cut 196 = .ok (.aload_n 0, 1) := by decide +kernel
theorem dX0_cut_197 : decode cX0_cut 197 = .ok (.getfield 41, 3) := by decide +kernel
theorem dX0_cut_200 : decode cX0_cut 200 = .ok (.iload_n 1, 1) := by decide +kernel
theorem dX0_cut_201 : decode cX0_cut 201 = .ok (.iaload, 1) := by decide +kernel
theorem dX0_cut_202 : decode cX0_cut 202 = .ok (.goto 7, 3) := by decide +kernel
theorem dX0_cut_205 : decode cX0_cut 205 = .ok (.iload 5, 2) := by decide +kernel
theorem dX0_cut_207 : decode cX0_cut 207 = .ok (.iconst 1, 1) := by decide +kernel
theorem dX0_cut_208 : decode cX0_cut 208 = .ok (.iadd, 1) := by decide +kernel
theorem dX0_cut_209 : decode cX0_cut 209 = .ok (.iastore, 1) := by decide +kernel
theorem dX0_cut_210 : decode cX0_cut 210 = .ok (.aload_n 0, 1) := by decide +kernel
theorem dX0_cut_211 : decode cX0_cut 211 = .ok (.iload_n 1, 1) := by decide +kernel
theorem dX0_cut_212 : decode cX0_cut 212 = .ok (.iconst 2, 1) := by decide +kernel
theorem dX0_cut_213 : decode cX0_cut 213 = .ok (.iadd, 1) := by decide +kernel
theorem dX0_cut_214 : decode cX0_cut 214 = .ok (.putfield 47, 3) := by decide +kernel
theorem dX0_cut_217 : decode cX0_cut 217 = .ok (.return_, 1) := by decide +kernel
theorem dX0_least_0 : decode cX0_least 0 = .ok (.iload_n 1, 1) := by decide +kernel
theorem dX0_least_1 : decode cX0_least 1 = .ok (.invokestatic 63, 3) := by decide +kernel
theorem dX0_least_4 : decode cX0_least 4 = .ok (.ifCond .eq 10, 3) := by decide +kernel
theorem dX0_least_7 : decode cX0_least 7 = .ok (.iload_n 2, 1) := by decide +kernel
theorem dX0_least_8 : decode cX0_least 8 = .ok (.invokestatic 63, 3) := by decide +kernel
theorem dX0_least_11 : decode cX0_least 11 = .ok (.ifCond .ne 6, 3) := by decide +kernel
theorem dX0_least_14 : decode cX0_least 14 = .ok (.ldc 58, 2) := by decide +kernel
theorem dX0_least_16 : decode cX0_least 16 = .ok (.ireturn, 1) := by decide +kernel
theorem dX0_least_17 : decode cX0_least 17 = .ok (.aload_n 0, 1) := by decide +kernel
theorem dX0_least_18 : decode cX0_least 18 = .ok (.iload_n 1, 1) := by decide +kernel
theorem dX0_least_19 : decode cX0_least 19 = .ok (.iload_n 2, 1) := by decide +kernel
theorem dX0_least_20 : decode cX0_least 20 = .ok (.iconst 5, 1) := by decide +kernel
theorem dX0_least_21 : decode cX0_least 21 = .ok (.iconst (-1), 1) := by decide +kernel
theorem dX0_least_22 : decode cX0_least 22 = .ok (.invokevirtual 66, 3) := by decide +kernel
theorem dX0_least_25 : decode cX0_least 25 = .ok (.ineg, 1) := by decide +kernel
theorem dX0_least_26 : decode cX0_least 26 = .ok (.ireturn, 1) := by decide +kernel
theorem dX0_mostAt_0 : decode cX0_mostAt 0 = .ok (.iload_n 1, 1) := by decide +kernel
theorem dX0_mostAt_1 : decode cX0_mostAt 1 = .ok (.invokestatic 63, 3) := by decide +kernel
theorem dX0_mostAt_4 : decode cX0_mostAt 4 = .ok (.ifCond .eq 10, 3) := by decide +kernel
theorem dX0_mostAt_7 : decode cX0_mostAt 7 = .ok (.iload_n 2, 1) := by decide +kernel
theorem dX0_mostAt_8 : decode cX0_mostAt 8 = .ok (.invokestatic 63, 3) := by decide +kernel
theorem dX0_mostAt_11 : decode cX0_mostAt 11 = .ok (.ifCond .ne 5, 3) := by decide +kernel
theorem dX0_mostAt_14 : decode cX0_mostAt 14 = .ok (.iconst (-1), 1) := by decide +kernel
theorem dX0_mostAt_15 : decode cX0_mostAt 15 = .ok (.ireturn, 1) := by decide +kernel
theorem dX0_mostAt_16 : decode cX0_mostAt 16 = .ok (.aload_n 0, 1) := by decide +kernel
theorem dX0_mostAt_17 : decode cX0_mostAt 17 = .ok (.iload_n 1, 1) := by decide +kernel
theorem dX0_mostAt_18 : decode cX0_mostAt 18 = .ok (.iload_n 2, 1) := by decide +kernel
end
section
set_option maxRecDepth 100000
theorem dX0_mostAt_19 : decode cX0_mostAt 19 = .ok (.iconst 5, 1) := by decide +kernel
theorem dX0_mostAt_20 : decode cX0_mostAt 20 = .ok (.iconst 1, 1) := by decide +kernel
theorem dX0_mostAt_21 : decode cX0_mostAt 21 = .ok (.invokevirtual 66, 3) := by decide +kernel
theorem dX0_mostAt_24 : decode cX0_mostAt 24 = .ok (.istore_n 3, 1) := by decide +kernel
theorem dX0_mostAt_25 : decode cX0_mostAt 25 = .ok (.aload_n 0, 1) := by decide +kernel
theorem dX0_mostAt_26 : decode cX0_mostAt 26 = .ok (.iload_n 1, 1) := by decide +kernel
theorem dX0_mostAt_27 : decode cX0_mostAt 27 = .ok (.iload_n 2, 1) := by decide +kernel
theorem dX0_mostAt_28 : decode cX0_mostAt 28 = .ok (.iload_n 3, 1) := by decide +kernel
theorem dX0_mostAt_29 : decode cX0_mostAt 29 = .ok (.iconst 1, 1) := by decide +kernel
theorem dX0_mostAt_30 : decode cX0_mostAt 30 = .ok (.isub, 1) := by decide +kernel
theorem dX0_mostAt_31 : decode cX0_mostAt 31 = .ok (.invokevirtual 70, 3) := by decide +kernel
theorem dX0_mostAt_34 : decode cX0_mostAt 34 = .ok (.ireturn, 1) := by decide +kernel
theorem dX0_firstAbove_0 : decode cX0_firstAbove 0 = .ok (.aload_n 0, 1) := by decide +kernel
theorem dX0_firstAbove_1 : decode cX0_firstAbove 1 = .ok (.iload_n 1, 1) := by decide +kernel
theorem dX0_firstAbove_2 : decode cX0_firstAbove 2 = .ok (.iload_n 2, 1) := by decide +kernel
theorem dX0_firstAbove_3 : decode cX0_firstAbove 3 = .ok (.invokevirtual 78, 3) := by decide +kernel
theorem dX0_firstAbove_6 : decode cX0_firstAbove 6 = .ok (.iconst 0, 1) := by decide +kernel
theorem dX0_firstAbove_7 : decode cX0_firstAbove 7 = .ok (.istore 4, 2) := by decide +kernel
theorem dX0_firstAbove_9 : decode cX0_firstAbove 9 = .ok (.iload 4, 2) := by decide +kernel
theorem dX0_firstAbove_11 : decode cX0_firstAbove 11 = .ok (.sipush 2048, 3) := by decide +kernel
theorem dX0_firstAbove_14 : decode cX0_firstAbove 14 = .ok (.if_icmp .ge 114, 3) := by decide +kernel
theorem dX0_firstAbove_17 : decode cX0_firstAbove 17 = .ok (.aload_n 0, 1) := by decide +kernel
theorem dX0_firstAbove_18 : decode cX0_firstAbove 18 = .ok (.getfield 47, 3) := by decide +kernel
theorem dX0_firstAbove_21 : decode cX0_firstAbove 21 = .ok (.ifCond .le 107, 3) := by decide +kernel
theorem dX0_firstAbove_24 : decode cX0_firstAbove 24 = .ok (.aload_n 0, 1) := by decide +kernel
theorem dX0_firstAbove_25 : decode cX0_firstAbove 25 = .ok (.dup, 1) := by decide +kernel
theorem dX0_firstAbove_26 : decode cX0_firstAbove 26 = .ok (.getfield 47, 3) := by decide +kernel
theorem dX0_firstAbove_29 : decode cX0_firstAbove 29 = .ok (.iconst 1, 1) := by decide +kernel
theorem dX0_firstAbove_30 : decode cX0_firstAbove 30 = .ok (.isub, 1) := by decide +kernel
theorem dX0_firstAbove_31 : decode cX0_firstAbove 31 = .ok (.putfield 47, 3) := by decide +kernel
theorem dX0_firstAbove_34 : decode cX0_firstAbove 34 = .ok (.aload_n 0, 1) := by decide +kernel
theorem dX0_firstAbove_35 : decode cX0_firstAbove 35 = .ok (.getfield 47, 3) := by decide +kernel
theorem dX0_firstAbove_38 : decode cX0_firstAbove 38 = .ok (.istore 5, 2) := by decide +kernel
theorem dX0_firstAbove_40 : decode cX0_firstAbove 40 = .ok (.aload_n 0, 1) := by decide +kernel
theorem dX0_firstAbove_41 : decode cX0_firstAbove 41 = .ok (.aload_n 0, 1) := by decide +kernel
theorem dX0_firstAbove_42 : decode cX0_firstAbove 42 = .ok (.getfield 35, 3) := by decide +kernel
theorem dX0_firstAbove_45 : decode cX0_firstAbove 45 = .ok (.iload 5, 2) := by decide +kernel
theorem dX0_firstAbove_47 : decode cX0_firstAbove 47 = .ok (.iaload, 1) := by decide +kernel
theorem dX0_firstAbove_48 : decode cX0_firstAbove 48 = .ok (.aload_n 0, 1) := by decide +kernel
theorem dX0_firstAbove_49 : decode cX0_firstAbove 49 = .ok (.getfield 38, 3) := by decide +kernel
theorem dX0_firstAbove_52 : decode cX0_firstAbove 52 = .ok (.iload 5, 2) := by decide +kernel
theorem dX0_firstAbove_54 : decode cX0_firstAbove 54 = .ok (.iaload, 1) := by decide +kernel
theorem dX0_firstAbove_55 : decode cX0_firstAbove 55 = .ok (.aload_n 0, 1) := by decide +kernel
theorem dX0_firstAbove_56 : decode cX0_firstAbove 56 = .ok (.getfield 41, 3) := by decide +kernel
theorem dX0_firstAbove_59 : decode cX0_firstAbove 59 = .ok (.iload 5, 2) := by decide +kernel
theorem dX0_firstAbove_61 : decode cX0_firstAbove 61 = .ok (.iaload, 1) := by decide +kernel
theorem dX0_firstAbove_62 : decode cX0_firstAbove 62 = .ok (.aload_n 0, 1) := by decide +kernel
theorem dX0_firstAbove_63 : decode cX0_firstAbove 63 = .ok (.getfield 44, 3) := by decide +kernel
theorem dX0_firstAbove_66 : decode cX0_firstAbove 66 = .ok (.iload 5, 2) := by decide +kernel
theorem dX0_firstAbove_68 : decode cX0_firstAbove 68 = .ok (.iaload, 1) := by decide +kernel
theorem dX0_firstAbove_69 : decode cX0_firstAbove 69 = .ok (.invokevirtual 81, 3) := by decide +kernel
theorem dX0_firstAbove_72 : decode cX0_firstAbove 72 = .ok (.aload_n 0, 1) := by decide +kernel
theorem dX0_firstAbove_73 : decode cX0_firstAbove 73 = .ok (.getfield 19, 3) := by decide +kernel
theorem dX0_firstAbove_76 : decode cX0_firstAbove 76 = .ok (.iconst 5, 1) := by decide +kernel
theorem dX0_firstAbove_77 : decode cX0_firstAbove 77 = .ok (.iaload, 1) := by decide +kernel
theorem dX0_firstAbove_78 : decode cX0_firstAbove 78 = .ok (.iload_n 3, 1) := by decide +kernel
theorem dX0_firstAbove_79 : decode cX0_firstAbove 79 = .ok (.if_icmp .le 43, 3) := by decide +kernel
theorem dX0_firstAbove_82 : decode cX0_firstAbove 82 = .ok (.aload_n 0, 1) := by decide +kernel
theorem dX0_firstAbove_83 : decode cX0_firstAbove 83 = .ok (.iload 5, 2) := by decide +kernel
theorem dX0_firstAbove_85 : decode cX0_firstAbove 85 = .ok (.invokevirtual 110, 3) := by decide +kernel
theorem dX0_firstAbove_88 : decode cX0_firstAbove 88 = .ok (.ifCond .eq 28, 3) := by decide +kernel
theorem dX0_firstAbove_91 : decode cX0_firstAbove 91 = .ok (.bipush 32, 2) := by decide +kernel
theorem dX0_firstAbove_93 : decode cX0_firstAbove 93 = .ok (.aload_n 0, 1) := by decide +kernel
theorem dX0_firstAbove_94 : decode cX0_firstAbove 94 = .ok (.getfield 35, 3) := by decide +kernel
theorem dX0_firstAbove_97 : decode cX0_firstAbove 97 = .ok (.iload 5, 2) := by decide +kernel
theorem dX0_firstAbove_99 : decode cX0_firstAbove 99 = .ok (.iaload, 1) := by decide +kernel
theorem dX0_firstAbove_100 : decode cX0_firstAbove 100 = .ok (.bipush 16, 2) := by decide +kernel
theorem dX0_firstAbove_102 : decode cX0_firstAbove 102 = .ok (.iadd, 1) := by decide +kernel
theorem dX0_firstAbove_103 : decode cX0_firstAbove 103 = .ok (.imul, 1) := by decide +kernel
theorem dX0_firstAbove_104 : decode cX0_firstAbove 104 = .ok (.aload_n 0, 1) := by decide +kernel
theorem dX0_firstAbove_105 : decode cX0_firstAbove 105 = .ok (.getfield 41, 3) := by decide +kernel
theorem dX0_firstAbove_108 : decode cX0_firstAbove 108 = .ok (.iload 5, 2) := by decide +kernel
theorem dX0_firstAbove_110 : decode cX0_firstAbove 110 = .ok (.iaload, 1) := by decide +kernel
theorem dX0_firstAbove_111 : decode cX0_firstAbove 111 = .ok (.iadd, 1) := by decide +kernel
theorem dX0_firstAbove_112 : decode cX0_firstAbove 112 = .ok (.bipush 16, 2) := by decide +kernel
theorem dX0_firstAbove_114 : decode cX0_firstAbove 114 = .ok (.iadd, 1) := by decide +kernel
theorem dX0_firstAbove_115 : decode cX0_firstAbove 115 = .ok (.ireturn, 1) := by decide +kernel
theorem dX0_firstAbove_116 : decode cX0_firstAbove 116 = .ok (.aload_n 0, 1) := by decide +kernel
theorem dX0_firstAbove_117 : decode cX0_firstAbove 117 = .ok (.iload 5, 2) := by decide +kernel
theorem dX0_firstAbove_119 : decode cX0_firstAbove 119 = .ok (.invokevirtual 89, 3) := by decide +kernel
theorem dX0_firstAbove_122 : decode cX0_firstAbove 122 = .ok (.iinc 4 1, 3) := by decide +kernel
theorem dX0_firstAbove_125 : decode cX0_firstAbove 125 = .ok (.goto (-116), 3) := by decide +kernel
theorem dX0_firstAbove_128 : decode cX0_firstAbove 128 = .ok (.bipush (-2), 2) := by decide +kernel
theorem dX0_firstAbove_130 : decode cX0_firstAbove 130 = .ok (.ireturn, 1) := by decide +kernel
theorem dX0_safe_0 : decode cX0_safe 0 = .ok (.iload_n 1, 1) := by decide +kernel
theorem dX0_safe_1 : decode cX0_safe 1 = .ok (.invokestatic 63, 3) := by decide +kernel
theorem dX0_safe_4 : decode cX0_safe 4 = .ok (.ifCond .eq 10, 3) := by decide +kernel
theorem dX0_safe_7 : decode cX0_safe 7 = .ok (.iload_n 2, 1) := by decide +kernel
theorem dX0_safe_8 : decode cX0_safe 8 = .ok (.invokestatic 63, 3) := by decide +kernel
theorem dX0_safe_11 : decode cX0_safe 11 = .ok (.ifCond .ne 5, 3) := by decide +kernel
theorem dX0_safe_14 : decode cX0_safe 14 = .ok (.iconst (-1), 1) := by decide +kernel
theorem dX0_safe_15 : decode cX0_safe 15 = .ok (.ireturn, 1) := by decide +kernel
theorem dX0_safe_16 : decode cX0_safe 16 = .ok (.aload_n 0, 1) := by decide +kernel
theorem dX0_safe_17 : decode cX0_safe 17 = .ok (.iload_n 1, 1) := by decide +kernel
theorem dX0_safe_18 : decode cX0_safe 18 = .ok (.iload_n 2, 1) := by decide +kernel
theorem dX0_safe_19 : decode cX0_safe 19 = .ok (.iload_n 3, 1) := by decide +kernel
theorem dX0_safe_20 : decode cX0_safe 20 = .ok (.invokevirtual 70, 3) := by decide +kernel
theorem dX0_safe_23 : decode cX0_safe 23 = .ok (.bipush (-2), 2) := by decide +kernel
theorem dX0_safe_25 : decode cX0_safe 25 = .ok (.if_icmp .ne 7, 3) := by decide +kernel
theorem dX0_safe_28 : decode cX0_safe 28 = .ok (.iconst 1, 1) := by decide +kernel
theorem dX0_safe_29 : decode cX0_safe 29 = .ok (.goto 4, 3) := by decide +kernel
theorem dX0_safe_32 : decode cX0_safe 32 = .ok (.iconst 0, 1) := by decide +kernel
theorem dX0_safe_33 : decode cX0_safe 33 = .ok (.ireturn, 1) := by decide +kernel
theorem dX0_breach_0 : decode cX0_breach 0 = .ok (.iload_n 1, 1) := by decide +kernel
theorem dX0_breach_1 : decode cX0_breach 1 = .ok (.invokestatic 63, 3) := by decide +kernel
theorem dX0_breach_4 : decode cX0_breach 4 = .ok (.ifCond .eq 10, 3) := by decide +kernel
theorem dX0_breach_7 : decode cX0_breach 7 = .ok (.iload_n 2, 1) := by decide +kernel
theorem dX0_breach_8 : decode cX0_breach 8 = .ok (.invokestatic 63, 3) := by decide +kernel
theorem dX0_breach_11 : decode cX0_breach 11 = .ok (.ifCond .ne 5, 3) := by decide +kernel
theorem dX0_breach_14 : decode cX0_breach 14 = .ok (.iconst (-1), 1) := by decide +kernel
theorem dX0_breach_15 : decode cX0_breach 15 = .ok (.ireturn, 1) := by decide +kernel
theorem dX0_breach_16 : decode cX0_breach 16 = .ok (.aload_n 0, 1) := by decide +kernel
theorem dX0_breach_17 : decode cX0_breach 17 = .ok (.iload_n 1, 1) := by decide +kernel
theorem dX0_breach_18 : decode cX0_breach 18 = .ok (.iload_n 2, 1) := by decide +kernel
theorem dX0_breach_19 : decode cX0_breach 19 = .ok (.iload_n 3, 1) := by decide +kernel
theorem dX0_breach_20 : decode cX0_breach 20 = .ok (.invokevirtual 70, 3) := by decide +kernel
theorem dX0_breach_23 : decode cX0_breach 23 = .ok (.ireturn, 1) := by decide +kernel
theorem dX0_fixed_0 : decode cX0_fixed 0 = .ok (.iload_n 1, 1) := by decide +kernel
theorem dX0_fixed_1 : decode cX0_fixed 1 = .ok (.ifCond .lt 8, 3) := by decide +kernel
theorem dX0_fixed_4 : decode cX0_fixed 4 = .ok (.iload_n 1, 1) := by decide +kernel
theorem dX0_fixed_5 : decode cX0_fixed 5 = .ok (.iconst 4, 1) := by decide +kernel
theorem dX0_fixed_6 : decode cX0_fixed 6 = .ok (.if_icmp .le 5, 3) := by decide +kernel
theorem dX0_fixed_9 : decode cX0_fixed 9 = .ok (.iconst (-1), 1) := by decide +kernel
theorem dX0_fixed_10 : decode cX0_fixed 10 = .ok (.ireturn, 1) := by decide +kernel
theorem dX0_fixed_11 : decode cX0_fixed 11 = .ok (.iload_n 2, 1) := by decide +kernel
theorem dX0_fixed_12 : decode cX0_fixed 12 = .ok (.invokestatic 63, 3) := by decide +kernel
theorem dX0_fixed_15 : decode cX0_fixed 15 = .ok (.ifCond .eq 10, 3) := by decide +kernel
theorem dX0_fixed_18 : decode cX0_fixed 18 = .ok (.iload_n 3, 1) := by decide +kernel
theorem dX0_fixed_19 : decode cX0_fixed 19 = .ok (.invokestatic 63, 3) := by decide +kernel
theorem dX0_fixed_22 : decode cX0_fixed 22 = .ok (.ifCond .ne 6, 3) := by decide +kernel
theorem dX0_fixed_25 : decode cX0_fixed 25 = .ok (.bipush (-2), 2) := by decide +kernel
theorem dX0_fixed_27 : decode cX0_fixed 27 = .ok (.ireturn, 1) := by decide +kernel
theorem dX0_fixed_28 : decode cX0_fixed 28 = .ok (.aload_n 0, 1) := by decide +kernel
theorem dX0_fixed_29 : decode cX0_fixed 29 = .ok (.iload_n 2, 1) := by decide +kernel
theorem dX0_fixed_30 : decode cX0_fixed 30 = .ok (.iload_n 3, 1) := by decide +kernel
theorem dX0_fixed_31 : decode cX0_fixed 31 = .ok (.iload_n 1, 1) := by decide +kernel
theorem dX0_fixed_32 : decode cX0_fixed 32 = .ok (.iconst 1, 1) := by decide +kernel
theorem dX0_fixed_33 : decode cX0_fixed 33 = .ok (.invokevirtual 66, 3) := by decide +kernel
theorem dX0_fixed_36 : decode cX0_fixed 36 = .ok (.istore 4, 2) := by decide +kernel
theorem dX0_fixed_38 : decode cX0_fixed 38 = .ok (.iload 4, 2) := by decide +kernel
theorem dX0_fixed_40 : decode cX0_fixed 40 = .ok (.ifCond .gt 5, 3) := by decide +kernel
theorem dX0_fixed_43 : decode cX0_fixed 43 = .ok (.iconst 1, 1) := by decide +kernel
theorem dX0_fixed_44 : decode cX0_fixed 44 = .ok (.ireturn, 1) := by decide +kernel
theorem dX0_fixed_45 : decode cX0_fixed 45 = .ok (.aload_n 0, 1) := by decide +kernel
theorem dX0_fixed_46 : decode cX0_fixed 46 = .ok (.iload_n 2, 1) := by decide +kernel
theorem dX0_fixed_47 : decode cX0_fixed 47 = .ok (.iload_n 3, 1) := by decide +kernel
theorem dX0_fixed_48 : decode cX0_fixed 48 = .ok (.iload_n 1, 1) := by decide +kernel
theorem dX0_fixed_49 : decode cX0_fixed 49 = .ok (.iconst (-1), 1) := by decide +kernel
theorem dX0_fixed_50 : decode cX0_fixed 50 = .ok (.invokevirtual 66, 3) := by decide +kernel
theorem dX0_fixed_53 : decode cX0_fixed 53 = .ok (.ineg, 1) := by decide +kernel
theorem dX0_fixed_54 : decode cX0_fixed 54 = .ok (.istore 5, 2) := by decide +kernel
theorem dX0_fixed_56 : decode cX0_fixed 56 = .ok (.iload 5, 2) := by decide +kernel
theorem dX0_fixed_58 : decode cX0_fixed 58 = .ok (.ifCond .le 7, 3) := by decide +kernel
theorem dX0_fixed_61 : decode cX0_fixed 61 = .ok (.iconst 2, 1) := by decide +kernel
theorem dX0_fixed_62 : decode cX0_fixed 62 = .ok (.goto 4, 3) := by decide +kernel
theorem dX0_fixed_65 : decode cX0_fixed 65 = .ok (.iconst 0, 1) := by decide +kernel
theorem dX0_fixed_66 : decode cX0_fixed 66 = .ok (.ireturn, 1) := by decide +kernel
theorem dX0_radius_0 : decode cX0_radius 0 = .ok (.iload_n 1, 1) := by decide +kernel
theorem dX0_radius_1 : decode cX0_radius 1 = .ok (.invokestatic 55, 3) := by decide +kernel
theorem dX0_radius_4 : decode cX0_radius 4 = .ok (.ifCond .eq 10, 3) := by decide +kernel
theorem dX0_radius_7 : decode cX0_radius 7 = .ok (.iload_n 2, 1) := by decide +kernel
theorem dX0_radius_8 : decode cX0_radius 8 = .ok (.invokestatic 55, 3) := by decide +kernel
theorem dX0_radius_11 : decode cX0_radius 11 = .ok (.ifCond .ne 5, 3) := by decide +kernel
theorem dX0_radius_14 : decode cX0_radius 14 = .ok (.iconst (-1), 1) := by decide +kernel
theorem dX0_radius_15 : decode cX0_radius 15 = .ok (.ireturn, 1) := by decide +kernel
theorem dX0_radius_16 : decode cX0_radius 16 = .ok (.aload_n 0, 1) := by decide +kernel
theorem dX0_radius_17 : decode cX0_radius 17 = .ok (.iload_n 1, 1) := by decide +kernel
theorem dX0_radius_18 : decode cX0_radius 18 = .ok (.iload_n 2, 1) := by decide +kernel
theorem dX0_radius_19 : decode cX0_radius 19 = .ok (.invokevirtual 59, 3) := by decide +kernel
theorem dX0_radius_22 : decode cX0_radius 22 = .ok (.aload_n 0, 1) := by decide +kernel
theorem dX0_radius_23 : decode cX0_radius 23 = .ok (.getfield 13, 3) := by decide +kernel
theorem dX0_radius_26 : decode cX0_radius 26 = .ok (.iconst 5, 1) := by decide +kernel
theorem dX0_radius_27 : decode cX0_radius 27 = .ok (.iaload, 1) := by decide +kernel
theorem dX0_radius_28 : decode cX0_radius 28 = .ok (.iload_n 3, 1) := by decide +kernel
theorem dX0_radius_29 : decode cX0_radius 29 = .ok (.if_icmp .le 6, 3) := by decide +kernel
theorem dX0_radius_32 : decode cX0_radius 32 = .ok (.bipush (-2), 2) := by decide +kernel
theorem dX0_radius_34 : decode cX0_radius 34 = .ok (.ireturn, 1) := by decide +kernel
theorem dX0_radius_35 : decode cX0_radius 35 = .ok (.iconst 0, 1) := by decide +kernel
theorem dX0_radius_36 : decode cX0_radius 36 = .ok (.istore 4, 2) := by decide +kernel
theorem dX0_radius_38 : decode cX0_radius 38 = .ok (.bipush 32, 2) := by decide +kernel
theorem dX0_radius_40 : decode cX0_radius 40 = .ok (.istore 5, 2) := by decide +kernel
theorem dX0_radius_42 : decode cX0_radius 42 = .ok (.iconst 0, 1) := by decide +kernel
theorem dX0_radius_43 : decode cX0_radius 43 = .ok (.istore 6, 2) := by decide +kernel
theorem dX0_radius_45 : decode cX0_radius 45 = .ok (.iload 6, 2) := by decide +kernel
theorem dX0_radius_47 : decode cX0_radius 47 = .ok (.bipush 6, 2) := by decide +kernel
theorem dX0_radius_49 : decode cX0_radius 49 = .ok (.if_icmp .ge 68, 3) := by decide +kernel
theorem dX0_radius_52 : decode cX0_radius 52 = .ok (.iload 5, 2) := by decide +kernel
theorem dX0_radius_54 : decode cX0_radius 54 = .ok (.iload 4, 2) := by decide +kernel
theorem dX0_radius_56 : decode cX0_radius 56 = .ok (.isub, 1) := by decide +kernel
theorem dX0_radius_57 : decode cX0_radius 57 = .ok (.iconst 1, 1) := by decide +kernel
theorem dX0_radius_58 : decode cX0_radius 58 = .ok (.if_icmp .le 59, 3) := by decide +kernel
theorem dX0_radius_61 : decode cX0_radius 61 = .ok (.iload 4, 2) := by decide +kernel
theorem dX0_radius_63 : decode cX0_radius 63 = .ok (.iload 5, 2) := by decide +kernel
theorem dX0_radius_65 : decode cX0_radius 65 = .ok (.iadd, 1) := by decide +kernel
theorem dX0_radius_66 : decode cX0_radius 66 = .ok (.iconst 1, 1) := by decide +kernel
theorem dX0_radius_67 : decode cX0_radius 67 = .ok (.ishr, 1) := by decide +kernel
theorem dX0_radius_68 : decode cX0_radius 68 = .ok (.istore 7, 2) := by decide +kernel
theorem dX0_radius_70 : decode cX0_radius 70 = .ok (.iload_n 1, 1) := by decide +kernel
theorem dX0_radius_71 : decode cX0_radius 71 = .ok (.iload 7, 2) := by decide +kernel
theorem dX0_radius_73 : decode cX0_radius 73 = .ok (.invokestatic 74, 3) := by decide +kernel
theorem dX0_radius_76 : decode cX0_radius 76 = .ok (.istore 8, 2) := by decide +kernel
theorem dX0_radius_78 : decode cX0_radius 78 = .ok (.iload_n 2, 1) := by decide +kernel
theorem dX0_radius_79 : decode cX0_radius 79 = .ok (.iload 7, 2) := by decide +kernel
theorem dX0_radius_81 : decode cX0_radius 81 = .ok (.invokestatic 74, 3) := by decide +kernel
theorem dX0_radius_84 : decode cX0_radius 84 = .ok (.istore 9, 2) := by decide +kernel
theorem dX0_radius_86 : decode cX0_radius 86 = .ok (.aload_n 0, 1) := by decide +kernel
theorem dX0_radius_87 : decode cX0_radius 87 = .ok (.iload 8, 2) := by decide +kernel
theorem dX0_radius_89 : decode cX0_radius 89 = .ok (.iload 9, 2) := by decide +kernel
theorem dX0_radius_91 : decode cX0_radius 91 = .ok (.iload_n 3, 1) := by decide +kernel
theorem dX0_radius_92 : decode cX0_radius 92 = .ok (.invokevirtual 70, 3) := by decide +kernel
theorem dX0_radius_95 : decode cX0_radius 95 = .ok (.bipush (-2), 2) := by decide +kernel
theorem dX0_radius_97 : decode cX0_radius 97 = .ok (.if_icmp .ne 10, 3) := by decide +kernel
theorem dX0_radius_100 : decode cX0_radius 100 = .ok (.iload 7, 2) := by decide +kernel
theorem dX0_radius_102 : decode cX0_radius 102 = .ok (.istore 4, 2) := by decide +kernel
theorem dX0_radius_104 : decode cX0_radius 104 = .ok (.goto 7, 3) := by decide +kernel
theorem dX0_radius_107 : decode cX0_radius 107 = .ok (.iload 7, 2) := by decide +kernel
theorem dX0_radius_109 : decode cX0_radius 109 = .ok (.istore 5, 2) := by decide +kernel
theorem dX0_radius_111 : decode cX0_radius 111 = .ok (.iinc 6 1, 3) := by decide +kernel
theorem dX0_radius_114 : decode cX0_radius 114 = .ok (.goto (-69), 3) := by decide +kernel
theorem dX0_radius_117 : decode cX0_radius 117 = .ok (.iload 4, 2) := by decide +kernel
theorem dX0_radius_119 : decode cX0_radius 119 = .ok (.ireturn, 1) := by decide +kernel
theorem dX0_around_0 : decode cX0_around 0 = .ok (.iload_n 0, 1) := by decide +kernel
theorem dX0_around_1 : decode cX0_around 1 = .ok (.iload_n 1, 1) := by decide +kernel
theorem dX0_around_2 : decode cX0_around 2 = .ok (.isub, 1) := by decide +kernel
theorem dX0_around_3 : decode cX0_around 3 = .ok (.bipush (-16), 2) := by decide +kernel
theorem dX0_around_5 : decode cX0_around 5 = .ok (.if_icmp .ge 8, 3) := by decide +kernel
theorem dX0_around_8 : decode cX0_around 8 = .ok (.bipush (-16), 2) := by decide +kernel
theorem dX0_around_10 : decode cX0_around 10 = .ok (.goto 6, 3) := by decide +kernel
theorem dX0_around_13 : decode cX0_around 13 = .ok (.iload_n 0, 1) := by decide +kernel
theorem dX0_around_14 : decode cX0_around 14 = .ok (.iload_n 1, 1) := by decide +kernel
theorem dX0_around_15 : decode cX0_around 15 = .ok (.isub, 1) := by decide +kernel
theorem dX0_around_16 : decode cX0_around 16 = .ok (.istore_n 2, 1) := by decide +kernel
theorem dX0_around_17 : decode cX0_around 17 = .ok (.iload_n 0, 1) := by decide +kernel
theorem dX0_around_18 : decode cX0_around 18 = .ok (.iload_n 1, 1) := by decide +kernel
theorem dX0_around_19 : decode cX0_around 19 = .ok (.iadd, 1) := by decide +kernel
theorem dX0_around_20 : decode cX0_around 20 = .ok (.bipush 16, 2) := by decide +kernel
theorem dX0_around_22 : decode cX0_around 22 = .ok (.if_icmp .lt 8, 3) := by decide +kernel
theorem dX0_around_25 : decode cX0_around 25 = .ok (.bipush 15, 2) := by decide +kernel
theorem dX0_around_27 : decode cX0_around 27 = .ok (.goto 6, 3) := by decide +kernel
theorem dX0_around_30 : decode cX0_around 30 = .ok (.iload_n 0, 1) := by decide +kernel
theorem dX0_around_31 : decode cX0_around 31 = .ok (.iload_n 1, 1) := by decide +kernel
theorem dX0_around_32 : decode cX0_around 32 = .ok (.iadd, 1) := by decide +kernel
theorem dX0_around_33 : decode cX0_around 33 = .ok (.istore_n 3, 1) := by decide +kernel
theorem dX0_around_34 : decode cX0_around 34 = .ok (.bipush 32, 2) := by decide +kernel
theorem dX0_around_36 : decode cX0_around 36 = .ok (.iload_n 2, 1) := by decide +kernel
theorem dX0_around_37 : decode cX0_around 37 = .ok (.bipush 16, 2) := by decide +kernel
theorem dX0_around_39 : decode cX0_around 39 = .ok (.iadd, 1) := by decide +kernel
theorem dX0_around_40 : decode cX0_around 40 = .ok (.imul, 1) := by decide +kernel
theorem dX0_around_41 : decode cX0_around 41 = .ok (.iload_n 3, 1) := by decide +kernel
theorem dX0_around_42 : decode cX0_around 42 = .ok (.iadd, 1) := by decide +kernel
theorem dX0_around_43 : decode cX0_around 43 = .ok (.bipush 16, 2) := by decide +kernel
theorem dX0_around_45 : decode cX0_around 45 = .ok (.iadd, 1) := by decide +kernel
theorem dX0_around_46 : decode cX0_around 46 = .ok (.ireturn, 1) := by decide +kernel
theorem dX0_patterns_0 : decode cX0_patterns 0 = .ok (.iload_n 1, 1) := by decide +kernel
theorem dX0_patterns_1 : decode cX0_patterns 1 = .ok (.invokestatic 63, 3) := by decide +kernel
theorem dX0_patterns_4 : decode cX0_patterns 4 = .ok (.ifCond .eq 10, 3) := by decide +kernel
theorem dX0_patterns_7 : decode cX0_patterns 7 = .ok (.iload_n 2, 1) := by decide +kernel
theorem dX0_patterns_8 : decode cX0_patterns 8 = .ok (.invokestatic 63, 3) := by decide +kernel
theorem dX0_patterns_11 : decode cX0_patterns 11 = .ok (.ifCond .ne 5, 3) := by decide +kernel
theorem dX0_patterns_14 : decode cX0_patterns 14 = .ok (.iconst (-1), 1) := by decide +kernel
theorem dX0_patterns_15 : decode cX0_patterns 15 = .ok (.ireturn, 1) := by decide +kernel
theorem dX0_patterns_16 : decode cX0_patterns 16 = .ok (.iconst 0, 1) := by decide +kernel
theorem dX0_patterns_17 : decode cX0_patterns 17 = .ok (.istore_n 3, 1) := by decide +kernel
theorem dX0_patterns_18 : decode cX0_patterns 18 = .ok (.aload_n 0, 1) := by decide +kernel
theorem dX0_patterns_19 : decode cX0_patterns 19 = .ok (.iload_n 1, 1) := by decide +kernel
theorem dX0_patterns_20 : decode cX0_patterns 20 = .ok (.iload_n 2, 1) := by decide +kernel
theorem dX0_patterns_21 : decode cX0_patterns 21 = .ok (.invokevirtual 78, 3) := by decide +kernel
theorem dX0_patterns_24 : decode cX0_patterns 24 = .ok (.iconst 0, 1) := by decide +kernel
theorem dX0_patterns_25 : decode cX0_patterns 25 = .ok (.istore 4, 2) := by decide +kernel
theorem dX0_patterns_27 : decode cX0_patterns 27 = .ok (.iload 4, 2) := by decide +kernel
theorem dX0_patterns_29 : decode cX0_patterns 29 = .ok (.sipush 2048, 3) := by decide +kernel
theorem dX0_patterns_32 : decode cX0_patterns 32 = .ok (.if_icmp .ge 91, 3) := by decide +kernel
theorem dX0_patterns_35 : decode cX0_patterns 35 = .ok (.aload_n 0, 1) := by decide +kernel
theorem dX0_patterns_36 : decode cX0_patterns 36 = .ok (.getfield 47, 3) := by decide +kernel
theorem dX0_patterns_39 : decode cX0_patterns 39 = .ok (.ifCond .le 84, 3) := by decide +kernel
theorem dX0_patterns_42 : decode cX0_patterns 42 = .ok (.aload_n 0, 1) := by decide +kernel
theorem dX0_patterns_43 : decode cX0_patterns 43 = .ok (.dup, 1) := by decide +kernel
theorem dX0_patterns_44 : decode cX0_patterns 44 = .ok (.getfield 47, 3) := by decide +kernel
theorem dX0_patterns_47 : decode cX0_patterns 47 = .ok (.iconst 1, 1) := by decide +kernel
theorem dX0_patterns_48 : decode cX0_patterns 48 = .ok (.isub, 1) := by decide +kernel
theorem dX0_patterns_49 : decode cX0_patterns 49 = .ok (.putfield 47, 3) := by decide +kernel
theorem dX0_patterns_52 : decode cX0_patterns 52 = .ok (.aload_n 0, 1) := by decide +kernel
theorem dX0_patterns_53 : decode cX0_patterns 53 = .ok (.getfield 47, 3) := by decide +kernel
theorem dX0_patterns_56 : decode cX0_patterns 56 = .ok (.istore 5, 2) := by decide +kernel
theorem dX0_patterns_58 : decode cX0_patterns 58 = .ok (.aload_n 0, 1) := by decide +kernel
theorem dX0_patterns_59 : decode cX0_patterns 59 = .ok (.aload_n 0, 1) := by decide +kernel
theorem dX0_patterns_60 : decode cX0_patterns 60 = .ok (.getfield 35, 3) := by decide +kernel
theorem dX0_patterns_63 : decode cX0_patterns 63 = .ok (.iload 5, 2) := by decide +kernel
theorem dX0_patterns_65 : decode cX0_patterns 65 = .ok (.iaload, 1) := by decide +kernel
theorem dX0_patterns_66 : decode cX0_patterns 66 = .ok (.aload_n 0, 1) := by decide +kernel
theorem dX0_patterns_67 : decode cX0_patterns 67 = .ok (.getfield 38, 3) := by decide +kernel
theorem dX0_patterns_70 : decode cX0_patterns 70 = .ok (.iload 5, 2) := by decide +kernel
theorem dX0_patterns_72 : decode cX0_patterns 72 = .ok (.iaload, 1) := by decide +kernel
theorem dX0_patterns_73 : decode cX0_patterns 73 = .ok (.aload_n 0, 1) := by decide +kernel
theorem dX0_patterns_74 : decode cX0_patterns 74 = .ok (.getfield 41, 3) := by decide +kernel
theorem dX0_patterns_77 : decode cX0_patterns 77 = .ok (.iload 5, 2) := by decide +kernel
theorem dX0_patterns_79 : decode cX0_patterns 79 = .ok (.iaload, 1) := by decide +kernel
theorem dX0_patterns_80 : decode cX0_patterns 80 = .ok (.aload_n 0, 1) := by decide +kernel
theorem dX0_patterns_81 : decode cX0_patterns 81 = .ok (.getfield 44, 3) := by decide +kernel
theorem dX0_patterns_84 : decode cX0_patterns 84 = .ok (.iload 5, 2) := by decide +kernel
theorem dX0_patterns_86 : decode cX0_patterns 86 = .ok (.iaload, 1) := by decide +kernel
theorem dX0_patterns_87 : decode cX0_patterns 87 = .ok (.invokevirtual 81, 3) := by decide +kernel
theorem dX0_patterns_90 : decode cX0_patterns 90 = .ok (.aload_n 0, 1) := by decide +kernel
theorem dX0_patterns_91 : decode cX0_patterns 91 = .ok (.invokevirtual 85, 3) := by decide +kernel
theorem dX0_patterns_94 : decode cX0_patterns 94 = .ok (.istore 6, 2) := by decide +kernel
theorem dX0_patterns_96 : decode cX0_patterns 96 = .ok (.iload 6, 2) := by decide +kernel
theorem dX0_patterns_98 : decode cX0_patterns 98 = .ok (.ifCond .lt 13, 3) := by decide +kernel
theorem dX0_patterns_101 : decode cX0_patterns 101 = .ok (.iload_n 3, 1) := by decide +kernel
theorem dX0_patterns_102 : decode cX0_patterns 102 = .ok (.iconst 1, 1) := by decide +kernel
theorem dX0_patterns_103 : decode cX0_patterns 103 = .ok (.iload 6, 2) := by decide +kernel
theorem dX0_patterns_105 : decode cX0_patterns 105 = .ok (.ishl, 1) := by decide +kernel
theorem dX0_patterns_106 : decode cX0_patterns 106 = .ok (.ior, 1) := by decide +kernel
theorem dX0_patterns_107 : decode cX0_patterns 107 = .ok (.istore_n 3, 1) := by decide +kernel
theorem dX0_patterns_108 : decode cX0_patterns 108 = .ok (.goto 9, 3) := by decide +kernel
theorem dX0_patterns_111 : decode cX0_patterns 111 = .ok (.aload_n 0, 1) := by decide +kernel
theorem dX0_patterns_112 : decode cX0_patterns 112 = .ok (.iload 5, 2) := by decide +kernel
theorem dX0_patterns_114 : decode cX0_patterns 114 = .ok (.invokevirtual 89, 3) := by decide +kernel
theorem dX0_patterns_117 : decode cX0_patterns 117 = .ok (.iinc 4 1, 3) := by decide +kernel
theorem dX0_patterns_120 : decode cX0_patterns 120 = .ok (.goto (-93), 3) := by decide +kernel
theorem dX0_patterns_123 : decode cX0_patterns 123 = .ok (.iconst 0, 1) := by decide +kernel
theorem dX0_patterns_124 : decode cX0_patterns 124 = .ok (.istore 4, 2) := by decide +kernel
theorem dX0_patterns_126 : decode cX0_patterns 126 = .ok (.iconst 0, 1) := by decide +kernel
theorem dX0_patterns_127 : decode cX0_patterns 127 = .ok (.istore 5, 2) := by decide +kernel
theorem dX0_patterns_129 : decode cX0_patterns 129 = .ok (.iload 5, 2) := by decide +kernel
theorem dX0_patterns_131 : decode cX0_patterns 131 = .ok (.bipush 32, 2) := by decide +kernel
theorem dX0_patterns_133 : decode cX0_patterns 133 = .ok (.if_icmp .ge 20, 3) := by decide +kernel
theorem dX0_patterns_136 : decode cX0_patterns 136 = .ok (.iload 4, 2) := by decide +kernel
theorem dX0_patterns_138 : decode cX0_patterns 138 = .ok (.iload_n 3, 1) := by decide +kernel
theorem dX0_patterns_139 : decode cX0_patterns 139 = .ok (.iload 5, 2) := by decide +kernel
theorem dX0_patterns_141 : decode cX0_patterns 141 = .ok (.iushr, 1) := by decide +kernel
theorem dX0_patterns_142 : decode cX0_patterns 142 = .ok (.iconst 1, 1) := by decide +kernel
theorem dX0_patterns_143 : decode cX0_patterns 143 = .ok (.iand, 1) := by decide +kernel
theorem dX0_patterns_144 : decode cX0_patterns 144 = .ok (.iadd, 1) := by decide +kernel
theorem dX0_patterns_145 : decode cX0_patterns 145 = .ok (.istore 4, 2) := by decide +kernel
theorem dX0_patterns_147 : decode cX0_patterns 147 = .ok (.iinc 5 1, 3) := by decide +kernel
theorem dX0_patterns_150 : decode cX0_patterns 150 = .ok (.goto (-21), 3) := by decide +kernel
theorem dX0_patterns_153 : decode cX0_patterns 153 = .ok (.iload 4, 2) := by decide +kernel
theorem dX0_patterns_155 : decode cX0_patterns 155 = .ok (.ireturn, 1) := by decide +kernel
theorem dX0_patternOf_0 : decode cX0_patternOf 0 = .ok (.iconst 0, 1) := by decide +kernel
theorem dX0_patternOf_1 : decode cX0_patternOf 1 = .ok (.istore_n 1, 1) := by decide +kernel
theorem dX0_patternOf_2 : decode cX0_patternOf 2 = .ok (.iconst 0, 1) := by decide +kernel
theorem dX0_patternOf_3 : decode cX0_patternOf 3 = .ok (.istore_n 2, 1) := by decide +kernel
theorem dX0_patternOf_4 : decode cX0_patternOf 4 = .ok (.iload_n 2, 1) := by decide +kernel
theorem dX0_patternOf_5 : decode cX0_patternOf 5 = .ok (.iconst 5, 1) := by decide +kernel
theorem dX0_patternOf_6 : decode cX0_patternOf 6 = .ok (.if_icmp .ge 38, 3) := by decide +kernel
theorem dX0_patternOf_9 : decode cX0_patternOf 9 = .ok (.aload_n 0, 1) := by decide +kernel
theorem dX0_patternOf_10 : decode cX0_patternOf 10 = .ok (.getfield 16, 3) := by decide +kernel
theorem dX0_patternOf_13 : decode cX0_patternOf 13 = .ok (.iload_n 2, 1) := by decide +kernel
theorem dX0_patternOf_14 : decode cX0_patternOf 14 = .ok (.iaload, 1) := by decide +kernel
theorem dX0_patternOf_15 : decode cX0_patternOf 15 = .ok (.ifCond .le 12, 3) := by decide +kernel
theorem dX0_patternOf_18 : decode cX0_patternOf 18 = .ok (.iload_n 1, 1) := by decide +kernel
theorem dX0_patternOf_19 : decode cX0_patternOf 19 = .ok (.iconst 1, 1) := by decide +kernel
theorem dX0_patternOf_20 : decode cX0_patternOf 20 = .ok (.iload_n 2, 1) := by decide +kernel
theorem dX0_patternOf_21 : decode cX0_patternOf 21 = .ok (.ishl, 1) := by decide +kernel
theorem dX0_patternOf_22 : decode cX0_patternOf 22 = .ok (.ior, 1) := by decide +kernel
theorem dX0_patternOf_23 : decode cX0_patternOf 23 = .ok (.istore_n 1, 1) := by decide +kernel
theorem dX0_patternOf_24 : decode cX0_patternOf 24 = .ok (.goto 14, 3) := by decide +kernel
theorem dX0_patternOf_27 : decode cX0_patternOf 27 = .ok (.aload_n 0, 1) := by decide +kernel
theorem dX0_patternOf_28 : decode cX0_patternOf 28 = .ok (.getfield 19, 3) := by decide +kernel
theorem dX0_patternOf_31 : decode cX0_patternOf 31 = .ok (.iload_n 2, 1) := by decide +kernel
theorem dX0_patternOf_32 : decode cX0_patternOf 32 = .ok (.iaload, 1) := by decide +kernel
theorem dX0_patternOf_33 : decode cX0_patternOf 33 = .ok (.ifCond .le 5, 3) := by decide +kernel
theorem dX0_patternOf_36 : decode cX0_patternOf 36 = .ok (.iconst (-1), 1) := by decide +kernel
theorem dX0_patternOf_37 : decode cX0_patternOf 37 = .ok (.ireturn, 1) := by decide +kernel
theorem dX0_patternOf_38 : decode cX0_patternOf 38 = .ok (.iinc 2 1, 3) := by decide +kernel
theorem dX0_patternOf_41 : decode cX0_patternOf 41 = .ok (.goto (-37), 3) := by decide +kernel
theorem dX0_patternOf_44 : decode cX0_patternOf 44 = .ok (.iload_n 1, 1) := by decide +kernel
theorem dX0_patternOf_45 : decode cX0_patternOf 45 = .ok (.ireturn, 1) := by decide +kernel
end
section
set_option maxRecDepth 100000
theorem dX1_init_0 : decode cX1_init 0 = .ok (.aload_n 0, 1) := by decide +kernel
theorem dX1_init_1 : decode cX1_init 1 = .ok (.invokespecial 1, 3) := by decide +kernel
theorem dX1_init_4 : decode cX1_init 4 = .ok (.aload_n 0, 1) := by decide +kernel
theorem dX1_init_5 : decode cX1_init 5 = .ok (.bipush 20, 2) := by decide +kernel
theorem dX1_init_7 : decode cX1_init 7 = .ok (.newarray .int, 2) := by decide +kernel
theorem dX1_init_9 : decode cX1_init 9 = .ok (.putfield 7, 3) := by decide +kernel
theorem dX1_init_12 : decode cX1_init 12 = .ok (.return_, 1) := by decide +kernel
theorem dX1_set_0 : decode cX1_set 0 = .ok (.iload_n 1, 1) := by decide +kernel
theorem dX1_set_1 : decode cX1_set 1 = .ok (.ifCond .lt 9, 3) := by decide +kernel
theorem dX1_set_4 : decode cX1_set 4 = .ok (.iload_n 1, 1) := by decide +kernel
theorem dX1_set_5 : decode cX1_set 5 = .ok (.bipush 19, 2) := by decide +kernel
theorem dX1_set_7 : decode cX1_set 7 = .ok (.if_icmp .le 5, 3) := by decide +kernel
theorem dX1_set_10 : decode cX1_set 10 = .ok (.iconst (-1), 1) := by decide +kernel
theorem dX1_set_11 : decode cX1_set 11 = .ok (.ireturn, 1) := by decide +kernel
theorem dX1_set_12 : decode cX1_set 12 = .ok (.aload_n 0, 1) := by decide +kernel
theorem dX1_set_13 : decode cX1_set 13 = .ok (.iload_n 1, 1) := by decide +kernel
theorem dX1_set_14 : decode cX1_set 14 = .ok (.invokevirtual 13, 3) := by decide +kernel
theorem dX1_set_17 : decode cX1_set 17 = .ok (.ifCond .eq 8, 3) := by decide +kernel
theorem dX1_set_20 : decode cX1_set 20 = .ok (.bipush 50, 2) := by decide +kernel
theorem dX1_set_22 : decode cX1_set 22 = .ok (.goto 4, 3) := by decide +kernel
theorem dX1_set_25 : decode cX1_set 25 = .ok (.iconst 5, 1) := by decide +kernel
theorem dX1_set_26 : decode cX1_set 26 = .ok (.istore_n 3, 1) := by decide +kernel
theorem dX1_set_27 : decode cX1_set 27 = .ok (.iload_n 2, 1) := by decide +kernel
theorem dX1_set_28 : decode cX1_set 28 = .ok (.iload_n 3, 1) := by decide +kernel
theorem dX1_set_29 : decode cX1_set 29 = .ok (.ineg, 1) := by decide +kernel
theorem dX1_set_30 : decode cX1_set 30 = .ok (.if_icmp .lt 8, 3) := by decide +kernel
theorem dX1_set_33 : decode cX1_set 33 = .ok (.iload_n 2, 1) := by decide +kernel
theorem dX1_set_34 : decode cX1_set 34 = .ok (.iload_n 3, 1) := by decide +kernel
theorem dX1_set_35 : decode cX1_set 35 = .ok (.if_icmp .le 6, 3) := by decide +kernel
theorem dX1_set_38 : decode cX1_set 38 = .ok (.bipush (-2), 2) := by decide +kernel
theorem dX1_set_40 : decode cX1_set 40 = .ok (.ireturn, 1) := by decide +kernel
theorem dX1_set_41 : decode cX1_set 41 = .ok (.aload_n 0, 1) := by decide +kernel
theorem dX1_set_42 : decode cX1_set 42 = .ok (.getfield 7, 3) := by decide +kernel
theorem dX1_set_45 : decode cX1_set 45 = .ok (.iload_n 1, 1) := by decide +kernel
theorem dX1_set_46 : decode cX1_set 46 = .ok (.iaload, 1) := by decide +kernel
theorem dX1_set_47 : decode cX1_set 47 = .ok (.iload_n 2, 1) := by decide +kernel
theorem dX1_set_48 : decode cX1_set 48 = .ok (.if_icmp .ne 7, 3) := by decide +kernel
theorem dX1_set_51 : decode cX1_set 51 = .ok (.iconst 0, 1) := by decide +kernel
theorem dX1_set_52 : decode cX1_set 52 = .ok (.goto 4, 3) := by decide +kernel
theorem dX1_set_55 : decode cX1_set 55 = .ok (.iconst 1, 1) := by decide +kernel
theorem dX1_set_56 : decode cX1_set 56 = .ok (.istore 4, 2) := by decide +kernel
theorem dX1_set_58 : decode cX1_set 58 = .ok (.aload_n 0, 1) := by decide +kernel
theorem dX1_set_59 : decode cX1_set 59 = .ok (.getfield 7, 3) := by decide +kernel
theorem dX1_set_62 : decode cX1_set 62 = .ok (.iload_n 1, 1) := by decide +kernel
theorem dX1_set_63 : decode cX1_set 63 = .ok (.iload_n 2, 1) := by decide +kernel
theorem dX1_set_64 : decode cX1_set 64 = .ok (.iastore, 1) := by decide +kernel
theorem dX1_set_65 : decode cX1_set 65 = .ok (.iload 4, 2) := by decide +kernel
theorem dX1_set_67 : decode cX1_set 67 = .ok (.ireturn, 1) := by decide +kernel
theorem dX1_offset_0 : decode cX1_offset 0 = .ok (.iload_n 1, 1) := by decide +kernel
theorem dX1_offset_1 : decode cX1_offset 1 = .ok (.iconst 5, 1) := by decide +kernel
theorem dX1_offset_2 : decode cX1_offset 2 = .ok (.if_icmp .le 9, 3) := by decide +kernel
theorem dX1_offset_5 : decode cX1_offset 5 = .ok (.iload_n 1, 1) := by decide +kernel
theorem dX1_offset_6 : decode cX1_offset 6 = .ok (.bipush 9, 2) := by decide +kernel
theorem dX1_offset_8 : decode cX1_offset 8 = .ok (.if_icmp .lt 21, 3) := by decide +kernel
theorem dX1_offset_11 : decode cX1_offset 11 = .ok (.iload_n 1, 1) := by decide +kernel
theorem dX1_offset_12 : decode cX1_offset 12 = .ok (.bipush 15, 2) := by decide +kernel
theorem dX1_offset_14 : decode cX1_offset 14 = .ok (.if_icmp .eq 15, 3) := by decide +kernel
theorem dX1_offset_17 : decode cX1_offset 17 = .ok (.iload_n 1, 1) := by decide +kernel
theorem dX1_offset_18 : decode cX1_offset 18 = .ok (.bipush 16, 2) := by decide +kernel
theorem dX1_offset_20 : decode cX1_offset 20 = .ok (.if_icmp .eq 9, 3) := by decide +kernel
theorem dX1_offset_23 : decode cX1_offset 23 = .ok (.iload_n 1, 1) := by decide +kernel
theorem dX1_offset_24 : decode cX1_offset 24 = .ok (.bipush 19, 2) := by decide +kernel
theorem dX1_offset_26 : decode cX1_offset 26 = .ok (.if_icmp .ne 7, 3) := by decide +kernel
theorem dX1_offset_29 : decode cX1_offset 29 = .ok (.iconst 1, 1) := by decide +kernel
theorem dX1_offset_30 : decode cX1_offset 30 = .ok (.goto 4, 3) := by decide +kernel
theorem dX1_offset_33 : decode cX1_offset 33 = .ok (.iconst 0, 1) := by decide +kernel
theorem dX1_offset_34 : decode cX1_offset 34 = .ok (.ireturn, 1) := by decide +kernel
theorem dX1_sow_0 : decode cX1_sow 0 = .ok (.iload_n 1, 1) := by decide +kernel
theorem dX1_sow_1 : decode cX1_sow 1 = .ok (.ifCond .lt 9, 3) := by decide +kernel
theorem dX1_sow_4 : decode cX1_sow 4 = .ok (.iload_n 1, 1) := by decide +kernel
theorem dX1_sow_5 : decode cX1_sow 5 = .ok (.bipush 100, 2) := by decide +kernel
theorem dX1_sow_7 : decode cX1_sow 7 = .ok (.if_icmp .le 5, 3) := by decide +kernel
theorem dX1_sow_10 : decode cX1_sow 10 = .ok (.iconst (-1), 1) := by decide +kernel
theorem dX1_sow_11 : decode cX1_sow 11 = .ok (.ireturn, 1) := by decide +kernel
theorem dX1_sow_12 : decode cX1_sow 12 = .ok (.iload_n 2, 1) := by decide +kernel
theorem dX1_sow_13 : decode cX1_sow 13 = .ok (.ifCond .lt 9, 3) := by decide +kernel
theorem dX1_sow_16 : decode cX1_sow 16 = .ok (.iload_n 2, 1) := by decide +kernel
theorem dX1_sow_17 : decode cX1_sow 17 = .ok (.bipush 20, 2) := by decide +kernel
theorem dX1_sow_19 : decode cX1_sow 19 = .ok (.if_icmp .le 6, 3) := by decide +kernel
theorem dX1_sow_22 : decode cX1_sow 22 = .ok (.bipush (-2), 2) := by decide +kernel
theorem dX1_sow_24 : decode cX1_sow 24 = .ok (.ireturn, 1) := by decide +kernel
theorem dX1_sow_25 : decode cX1_sow 25 = .ok (.iconst 0, 1) := by decide +kernel
theorem dX1_sow_26 : decode cX1_sow 26 = .ok (.istore_n 3, 1) := by decide +kernel
theorem dX1_sow_27 : decode cX1_sow 27 = .ok (.iload_n 3, 1) := by decide +kernel
theorem dX1_sow_28 : decode cX1_sow 28 = .ok (.bipush 20, 2) := by decide +kernel
theorem dX1_sow_30 : decode cX1_sow 30 = .ok (.if_icmp .ge 60, 3) := by decide +kernel
theorem dX1_sow_33 : decode cX1_sow 33 = .ok (.aload_n 0, 1) := by decide +kernel
theorem dX1_sow_34 : decode cX1_sow 34 = .ok (.getfield 7, 3) := by decide +kernel
theorem dX1_sow_37 : decode cX1_sow 37 = .ok (.iload_n 3, 1) := by decide +kernel
theorem dX1_sow_38 : decode cX1_sow 38 = .ok (.aload_n 0, 1) := by decide +kernel
theorem dX1_sow_39 : decode cX1_sow 39 = .ok (.iload_n 3, 1) := by decide +kernel
theorem dX1_sow_40 : decode cX1_sow 40 = .ok (.invokevirtual 13, 3) := by decide +kernel
theorem dX1_sow_43 : decode cX1_sow 43 = .ok (.ifCond .eq 24, 3) := by decide +kernel
theorem dX1_sow_46 : decode cX1_sow 46 = .ok (.iload_n 1, 1) := by decide +kernel
theorem dX1_sow_47 : decode cX1_sow 47 = .ok (.bipush 7, 2) := by decide +kernel
theorem dX1_sow_49 : decode cX1_sow 49 = .ok (.imul, 1) := by decide +kernel
theorem dX1_sow_50 : decode cX1_sow 50 = .ok (.iconst 5, 1) := by decide +kernel
theorem dX1_sow_51 : decode cX1_sow 51 = .ok (.iload_n 3, 1) := by decide +kernel
theorem dX1_sow_52 : decode cX1_sow 52 = .ok (.imul, 1) := by decide +kernel
theorem dX1_sow_53 : decode cX1_sow 53 = .ok (.iadd, 1) := by decide +kernel
theorem dX1_sow_54 : decode cX1_sow 54 = .ok (.iload_n 2, 1) := by decide +kernel
theorem dX1_sow_55 : decode cX1_sow 55 = .ok (.iload_n 3, 1) := by decide +kernel
theorem dX1_sow_56 : decode cX1_sow 56 = .ok (.imul, 1) := by decide +kernel
theorem dX1_sow_57 : decode cX1_sow 57 = .ok (.iadd, 1) := by decide +kernel
theorem dX1_sow_58 : decode cX1_sow 58 = .ok (.bipush 41, 2) := by decide +kernel
theorem dX1_sow_60 : decode cX1_sow 60 = .ok (.irem, 1) := by decide +kernel
theorem dX1_sow_61 : decode cX1_sow 61 = .ok (.bipush 20, 2) := by decide +kernel
theorem dX1_sow_63 : decode cX1_sow 63 = .ok (.isub, 1) := by decide +kernel
theorem dX1_sow_64 : decode cX1_sow 64 = .ok (.goto 19, 3) := by decide +kernel
theorem dX1_sow_67 : decode cX1_sow 67 = .ok (.iload_n 1, 1) := by decide +kernel
theorem dX1_sow_68 : decode cX1_sow 68 = .ok (.iconst 3, 1) := by decide +kernel
theorem dX1_sow_69 : decode cX1_sow 69 = .ok (.iload_n 3, 1) := by decide +kernel
theorem dX1_sow_70 : decode cX1_sow 70 = .ok (.imul, 1) := by decide +kernel
theorem dX1_sow_71 : decode cX1_sow 71 = .ok (.iadd, 1) := by decide +kernel
theorem dX1_sow_72 : decode cX1_sow 72 = .ok (.iload_n 3, 1) := by decide +kernel
theorem dX1_sow_73 : decode cX1_sow 73 = .ok (.iload_n 3, 1) := by decide +kernel
theorem dX1_sow_74 : decode cX1_sow 74 = .ok (.imul, 1) := by decide +kernel
theorem dX1_sow_75 : decode cX1_sow 75 = .ok (.iload_n 2, 1) := by decide +kernel
theorem dX1_sow_76 : decode cX1_sow 76 = .ok (.imul, 1) := by decide +kernel
theorem dX1_sow_77 : decode cX1_sow 77 = .ok (.iadd, 1) := by decide +kernel
theorem dX1_sow_78 : decode cX1_sow 78 = .ok (.bipush 11, 2) := by decide +kernel
theorem dX1_sow_80 : decode cX1_sow 80 = .ok (.irem, 1) := by decide +kernel
theorem dX1_sow_81 : decode cX1_sow 81 = .ok (.iconst 5, 1) := by decide +kernel
theorem dX1_sow_82 : decode cX1_sow 82 = .ok (.isub, 1) := by decide +kernel
theorem dX1_sow_83 : decode cX1_sow 83 = .ok (.iastore, 1) := by decide +kernel
theorem dX1_sow_84 : decode cX1_sow 84 = .ok (.iinc 3 1, 3) := by decide +kernel
theorem dX1_sow_87 : decode cX1_sow 87 = .ok (.goto (-60), 3) := by decide +kernel
theorem dX1_sow_90 : decode cX1_sow 90 = .ok (.iconst 0, 1) := by decide +kernel
theorem dX1_sow_91 : decode cX1_sow 91 = .ok (.ireturn, 1) := by decide +kernel
theorem dX1_get_0 : decode cX1_get 0 = .ok (.iload_n 1, 1) := by decide +kernel
theorem dX1_get_1 : decode cX1_get 1 = .ok (.ifCond .lt 9, 3) := by decide +kernel
theorem dX1_get_4 : decode cX1_get 4 = .ok (.iload_n 1, 1) := by decide +kernel
theorem dX1_get_5 : decode cX1_get 5 = .ok (.bipush 19, 2) := by decide +kernel
theorem dX1_get_7 : decode cX1_get 7 = .ok (.if_icmp .le 9, 3) := by decide +kernel
theorem dX1_get_10 : decode cX1_get 10 = .ok (.sipush (-1000), 3) := by decide +kernel
theorem dX1_get_13 : decode cX1_get 13 = .ok (.goto 9, 3) := by decide +kernel
theorem dX1_get_16 : decode cX1_get 16 = .ok (.aload_n 0, 1) := by decide +kernel
theorem dX1_get_17 : decode cX1_get 17 = .ok (.getfield 7, 3) := by decide +kernel
theorem dX1_get_20 : decode cX1_get 20 = .ok (.iload_n 1, 1) := by decide +kernel
theorem dX1_get_21 : decode cX1_get 21 = .ok (.iaload, 1) := by decide +kernel
theorem dX1_get_22 : decode cX1_get 22 = .ok (.ireturn, 1) := by decide +kernel
theorem dX1_result_0 : decode cX1_result 0 = .ok (.aload_n 0, 1) := by decide +kernel
theorem dX1_result_1 : decode cX1_result 1 = .ok (.iload_n 1, 1) := by decide +kernel
theorem dX1_result_2 : decode cX1_result 2 = .ok (.invokevirtual 28, 3) := by decide +kernel
theorem dX1_result_5 : decode cX1_result 5 = .ok (.ifCond .ne 11, 3) := by decide +kernel
theorem dX1_result_8 : decode cX1_result 8 = .ok (.aload_n 0, 1) := by decide +kernel
theorem dX1_result_9 : decode cX1_result 9 = .ok (.iload_n 2, 1) := by decide +kernel
theorem dX1_result_10 : decode cX1_result 10 = .ok (.invokevirtual 28, 3) := by decide +kernel
theorem dX1_result_13 : decode cX1_result 13 = .ok (.ifCond .eq 8, 3) := by decide +kernel
theorem dX1_result_16 : decode cX1_result 16 = .ok (.ldc 31, 2) := by decide +kernel
theorem dX1_result_18 : decode cX1_result 18 = .ok (.goto 9, 3) := by decide +kernel
theorem dX1_result_21 : decode cX1_result 21 = .ok (.aload_n 0, 1) := by decide +kernel
theorem dX1_result_22 : decode cX1_result 22 = .ok (.iload_n 1, 1) := by decide +kernel
theorem dX1_result_23 : decode cX1_result 23 = .ok (.iload_n 2, 1) := by decide +kernel
theorem dX1_result_24 : decode cX1_result 24 = .ok (.invokevirtual 32, 3) := by decide +kernel
theorem dX1_result_27 : decode cX1_result 27 = .ok (.ireturn, 1) := by decide +kernel
theorem dX1_bad_0 : decode cX1_bad 0 = .ok (.iload_n 1, 1) := by decide +kernel
theorem dX1_bad_1 : decode cX1_bad 1 = .ok (.bipush (-16), 2) := by decide +kernel
theorem dX1_bad_3 : decode cX1_bad 3 = .ok (.if_icmp .lt 9, 3) := by decide +kernel
theorem dX1_bad_6 : decode cX1_bad 6 = .ok (.iload_n 1, 1) := by decide +kernel
theorem dX1_bad_7 : decode cX1_bad 7 = .ok (.bipush 15, 2) := by decide +kernel
theorem dX1_bad_9 : decode cX1_bad 9 = .ok (.if_icmp .le 7, 3) := by decide +kernel
theorem dX1_bad_12 : decode cX1_bad 12 = .ok (.iconst 1, 1) := by decide +kernel
theorem dX1_bad_13 : decode cX1_bad 13 = .ok (.goto 4, 3) := by decide +kernel
theorem dX1_bad_16 : decode cX1_bad 16 = .ok (.iconst 0, 1) := by decide +kernel
theorem dX1_bad_17 : decode cX1_bad 17 = .ok (.ireturn, 1) := by decide +kernel
theorem dX1_given_0 : decode cX1_given 0 = .ok (.aload_n 0, 1) := by decide +kernel
theorem dX1_given_1 : decode cX1_given 1 = .ok (.getfield 7, 3) := by decide +kernel
theorem dX1_given_4 : decode cX1_given 4 = .ok (.bipush 17, 2) := by decide +kernel
theorem dX1_given_6 : decode cX1_given 6 = .ok (.iaload, 1) := by decide +kernel
theorem dX1_given_7 : decode cX1_given 7 = .ok (.aload_n 0, 1) := by decide +kernel
theorem dX1_given_8 : decode cX1_given 8 = .ok (.iconst 0, 1) := by decide +kernel
theorem dX1_given_9 : decode cX1_given 9 = .ok (.iload_n 1, 1) := by decide +kernel
theorem dX1_given_10 : decode cX1_given 10 = .ok (.iload_n 2, 1) := by decide +kernel
theorem dX1_given_11 : decode cX1_given 11 = .ok (.invokevirtual 25, 3) := by decide +kernel
theorem dX1_given_14 : decode cX1_given 14 = .ok (.imul, 1) := by decide +kernel
theorem dX1_given_15 : decode cX1_given 15 = .ok (.aload_n 0, 1) := by decide +kernel
theorem dX1_given_16 : decode cX1_given 16 = .ok (.getfield 7, 3) := by decide +kernel
theorem dX1_given_19 : decode cX1_given 19 = .ok (.bipush 18, 2) := by decide +kernel
theorem dX1_given_21 : decode cX1_given 21 = .ok (.iaload, 1) := by decide +kernel
theorem dX1_given_22 : decode cX1_given 22 = .ok (.aload_n 0, 1) := by decide +kernel
theorem dX1_given_23 : decode cX1_given 23 = .ok (.iconst 1, 1) := by decide +kernel
theorem dX1_given_24 : decode cX1_given 24 = .ok (.iload_n 1, 1) := by decide +kernel
theorem dX1_given_25 : decode cX1_given 25 = .ok (.iload_n 2, 1) := by decide +kernel
theorem dX1_given_26 : decode cX1_given 26 = .ok (.invokevirtual 25, 3) := by decide +kernel
theorem dX1_given_29 : decode cX1_given 29 = .ok (.imul, 1) := by decide +kernel
theorem dX1_given_30 : decode cX1_given 30 = .ok (.iadd, 1) := by decide +kernel
theorem dX1_given_31 : decode cX1_given 31 = .ok (.aload_n 0, 1) := by decide +kernel
theorem dX1_given_32 : decode cX1_given 32 = .ok (.getfield 7, 3) := by decide +kernel
theorem dX1_given_35 : decode cX1_given 35 = .ok (.bipush 19, 2) := by decide +kernel
theorem dX1_given_37 : decode cX1_given 37 = .ok (.iaload, 1) := by decide +kernel
theorem dX1_given_38 : decode cX1_given 38 = .ok (.iadd, 1) := by decide +kernel
theorem dX1_given_39 : decode cX1_given 39 = .ok (.ireturn, 1) := by decide +kernel
theorem dX1_outer_0 : decode cX1_outer 0 = .ok (.aload_n 0, 1) := by decide +kernel
theorem dX1_outer_1 : decode cX1_outer 1 = .ok (.getfield 7, 3) := by decide +kernel
theorem dX1_outer_4 : decode cX1_outer 4 = .ok (.bipush 15, 2) := by decide +kernel
theorem dX1_outer_6 : decode cX1_outer 6 = .ok (.iload_n 1, 1) := by decide +kernel
theorem dX1_outer_7 : decode cX1_outer 7 = .ok (.iadd, 1) := by decide +kernel
theorem dX1_outer_8 : decode cX1_outer 8 = .ok (.iaload, 1) := by decide +kernel
theorem dX1_outer_9 : decode cX1_outer 9 = .ok (.istore 4, 2) := by decide +kernel
theorem dX1_outer_11 : decode cX1_outer 11 = .ok (.iconst 0, 1) := by decide +kernel
theorem dX1_outer_12 : decode cX1_outer 12 = .ok (.istore 5, 2) := by decide +kernel
theorem dX1_outer_14 : decode cX1_outer 14 = .ok (.iload 5, 2) := by decide +kernel
theorem dX1_outer_16 : decode cX1_outer 16 = .ok (.iconst 3, 1) := by decide +kernel
theorem dX1_outer_17 : decode cX1_outer 17 = .ok (.if_icmp .ge 37, 3) := by decide +kernel
theorem dX1_outer_20 : decode cX1_outer 20 = .ok (.iload 4, 2) := by decide +kernel
theorem dX1_outer_22 : decode cX1_outer 22 = .ok (.aload_n 0, 1) := by decide +kernel
theorem dX1_outer_23 : decode cX1_outer 23 = .ok (.getfield 7, 3) := by decide +kernel
theorem dX1_outer_26 : decode cX1_outer 26 = .ok (.bipush 9, 2) := by decide +kernel
theorem dX1_outer_28 : decode cX1_outer 28 = .ok (.iconst 3, 1) := by decide +kernel
theorem dX1_outer_29 : decode cX1_outer 29 = .ok (.iload_n 1, 1) := by decide +kernel
theorem dX1_outer_30 : decode cX1_outer 30 = .ok (.imul, 1) := by decide +kernel
theorem dX1_outer_31 : decode cX1_outer 31 = .ok (.iadd, 1) := by decide +kernel
theorem dX1_outer_32 : decode cX1_outer 32 = .ok (.iload 5, 2) := by decide +kernel
theorem dX1_outer_34 : decode cX1_outer 34 = .ok (.iadd, 1) := by decide +kernel
theorem dX1_outer_35 : decode cX1_outer 35 = .ok (.iaload, 1) := by decide +kernel
theorem dX1_outer_36 : decode cX1_outer 36 = .ok (.aload_n 0, 1) := by decide +kernel
theorem dX1_outer_37 : decode cX1_outer 37 = .ok (.iload 5, 2) := by decide +kernel
theorem dX1_outer_39 : decode cX1_outer 39 = .ok (.iload_n 2, 1) := by decide +kernel
theorem dX1_outer_40 : decode cX1_outer 40 = .ok (.iload_n 3, 1) := by decide +kernel
theorem dX1_outer_41 : decode cX1_outer 41 = .ok (.invokevirtual 21, 3) := by decide +kernel
theorem dX1_outer_44 : decode cX1_outer 44 = .ok (.imul, 1) := by decide +kernel
theorem dX1_outer_45 : decode cX1_outer 45 = .ok (.iadd, 1) := by decide +kernel
theorem dX1_outer_46 : decode cX1_outer 46 = .ok (.istore 4, 2) := by decide +kernel
theorem dX1_outer_48 : decode cX1_outer 48 = .ok (.iinc 5 1, 3) := by decide +kernel
theorem dX1_outer_51 : decode cX1_outer 51 = .ok (.goto (-37), 3) := by decide +kernel
theorem dX1_outer_54 : decode cX1_outer 54 = .ok (.aload_n 0, 1) := by decide +kernel
theorem dX1_outer_55 : decode cX1_outer 55 = .ok (.iload 4, 2) := by decide +kernel
theorem dX1_outer_57 : decode cX1_outer 57 = .ok (.invokevirtual 17, 3) := by decide +kernel
theorem dX1_outer_60 : decode cX1_outer 60 = .ok (.ireturn, 1) := by decide +kernel
theorem dX1_inner_0 : decode cX1_inner 0 = .ok (.aload_n 0, 1) := by decide +kernel
theorem dX1_inner_1 : decode cX1_inner 1 = .ok (.aload_n 0, 1) := by decide +kernel
theorem dX1_inner_2 : decode cX1_inner 2 = .ok (.getfield 7, 3) := by decide +kernel
theorem dX1_inner_5 : decode cX1_inner 5 = .ok (.iconst 2, 1) := by decide +kernel
theorem dX1_inner_6 : decode cX1_inner 6 = .ok (.iload_n 1, 1) := by decide +kernel
theorem dX1_inner_7 : decode cX1_inner 7 = .ok (.imul, 1) := by decide +kernel
theorem dX1_inner_8 : decode cX1_inner 8 = .ok (.iaload, 1) := by decide +kernel
theorem dX1_inner_9 : decode cX1_inner 9 = .ok (.iload_n 2, 1) := by decide +kernel
theorem dX1_inner_10 : decode cX1_inner 10 = .ok (.imul, 1) := by decide +kernel
theorem dX1_inner_11 : decode cX1_inner 11 = .ok (.aload_n 0, 1) := by decide +kernel
theorem dX1_inner_12 : decode cX1_inner 12 = .ok (.getfield 7, 3) := by decide +kernel
theorem dX1_inner_15 : decode cX1_inner 15 = .ok (.iconst 2, 1) := by decide +kernel
theorem dX1_inner_16 : decode cX1_inner 16 = .ok (.iload_n 1, 1) := by decide +kernel
theorem dX1_inner_17 : decode cX1_inner 17 = .ok (.imul, 1) := by decide +kernel
theorem dX1_inner_18 : decode cX1_inner 18 = .ok (.iconst 1, 1) := by decide +kernel
theorem dX1_inner_19 : decode cX1_inner 19 = .ok (.iadd, 1) := by decide +kernel
theorem dX1_inner_20 : decode cX1_inner 20 = .ok (.iaload, 1) := by decide +kernel
theorem dX1_inner_21 : decode cX1_inner 21 = .ok (.iload_n 3, 1) := by decide +kernel
theorem dX1_inner_22 : decode cX1_inner 22 = .ok (.imul, 1) := by decide +kernel
theorem dX1_inner_23 : decode cX1_inner 23 = .ok (.iadd, 1) := by decide +kernel
theorem dX1_inner_24 : decode cX1_inner 24 = .ok (.aload_n 0, 1) := by decide +kernel
theorem dX1_inner_25 : decode cX1_inner 25 = .ok (.getfield 7, 3) := by decide +kernel
theorem dX1_inner_28 : decode cX1_inner 28 = .ok (.bipush 6, 2) := by decide +kernel
theorem dX1_inner_30 : decode cX1_inner 30 = .ok (.iload_n 1, 1) := by decide +kernel
theorem dX1_inner_31 : decode cX1_inner 31 = .ok (.iadd, 1) := by decide +kernel
theorem dX1_inner_32 : decode cX1_inner 32 = .ok (.iaload, 1) := by decide +kernel
theorem dX1_inner_33 : decode cX1_inner 33 = .ok (.iadd, 1) := by decide +kernel
theorem dX1_inner_34 : decode cX1_inner 34 = .ok (.invokevirtual 17, 3) := by decide +kernel
theorem dX1_inner_37 : decode cX1_inner 37 = .ok (.ireturn, 1) := by decide +kernel
theorem dX1_clip_0 : decode cX1_clip 0 = .ok (.iload_n 1, 1) := by decide +kernel
theorem dX1_clip_1 : decode cX1_clip 1 = .ok (.ifCond .le 7, 3) := by decide +kernel
theorem dX1_clip_4 : decode cX1_clip 4 = .ok (.iload_n 1, 1) := by decide +kernel
theorem dX1_clip_5 : decode cX1_clip 5 = .ok (.goto 4, 3) := by decide +kernel
theorem dX1_clip_8 : decode cX1_clip 8 = .ok (.iconst 0, 1) := by decide +kernel
theorem dX1_clip_9 : decode cX1_clip 9 = .ok (.ireturn, 1) := by decide +kernel
theorem dX1_unit_0 : decode cX1_unit 0 = .ok (.iload_n 1, 1) := by decide +kernel
theorem dX1_unit_1 : decode cX1_unit 1 = .ok (.ifCond .lt 8, 3) := by decide +kernel
theorem dX1_unit_4 : decode cX1_unit 4 = .ok (.iload_n 1, 1) := by decide +kernel
theorem dX1_unit_5 : decode cX1_unit 5 = .ok (.iconst 4, 1) := by decide +kernel
theorem dX1_unit_6 : decode cX1_unit 6 = .ok (.if_icmp .le 5, 3) := by decide +kernel
theorem dX1_unit_9 : decode cX1_unit 9 = .ok (.iconst (-1), 1) := by decide +kernel
theorem dX1_unit_10 : decode cX1_unit 10 = .ok (.ireturn, 1) := by decide +kernel
theorem dX1_unit_11 : decode cX1_unit 11 = .ok (.aload_n 0, 1) := by decide +kernel
theorem dX1_unit_12 : decode cX1_unit 12 = .ok (.iload_n 2, 1) := by decide +kernel
theorem dX1_unit_13 : decode cX1_unit 13 = .ok (.invokevirtual 28, 3) := by decide +kernel
theorem dX1_unit_16 : decode cX1_unit 16 = .ok (.ifCond .ne 11, 3) := by decide +kernel
theorem dX1_unit_19 : decode cX1_unit 19 = .ok (.aload_n 0, 1) := by decide +kernel
theorem dX1_unit_20 : decode cX1_unit 20 = .ok (.iload_n 3, 1) := by decide +kernel
theorem dX1_unit_21 : decode cX1_unit 21 = .ok (.invokevirtual 28, 3) := by decide +kernel
theorem dX1_unit_24 : decode cX1_unit 24 = .ok (.ifCond .eq 8, 3) := by decide +kernel
theorem dX1_unit_27 : decode cX1_unit 27 = .ok (.bipush (-2), 2) := by decide +kernel
theorem dX1_unit_29 : decode cX1_unit 29 = .ok (.goto 10, 3) := by decide +kernel
theorem dX1_unit_32 : decode cX1_unit 32 = .ok (.aload_n 0, 1) := by decide +kernel
theorem dX1_unit_33 : decode cX1_unit 33 = .ok (.iload_n 1, 1) := by decide +kernel
theorem dX1_unit_34 : decode cX1_unit 34 = .ok (.iload_n 2, 1) := by decide +kernel
theorem dX1_unit_35 : decode cX1_unit 35 = .ok (.iload_n 3, 1) := by decide +kernel
theorem dX1_unit_36 : decode cX1_unit 36 = .ok (.invokevirtual 36, 3) := by decide +kernel
theorem dX1_unit_39 : decode cX1_unit 39 = .ok (.ireturn, 1) := by decide +kernel
theorem dX1_unitGiven_0 : decode cX1_unitGiven 0 = .ok (.iload_n 1, 1) := by decide +kernel
theorem dX1_unitGiven_1 : decode cX1_unitGiven 1 = .ok (.iconst 3, 1) := by decide +kernel
theorem dX1_unitGiven_2 : decode cX1_unitGiven 2 = .ok (.if_icmp .ge 13, 3) := by decide +kernel
theorem dX1_unitGiven_5 : decode cX1_unitGiven 5 = .ok (.aload_n 0, 1) := by decide +kernel
theorem dX1_unitGiven_6 : decode cX1_unitGiven 6 = .ok (.iload_n 1, 1) := by decide +kernel
theorem dX1_unitGiven_7 : decode cX1_unitGiven 7 = .ok (.iload_n 2, 1) := by decide +kernel
theorem dX1_unitGiven_8 : decode cX1_unitGiven 8 = .ok (.iload_n 3, 1) := by decide +kernel
theorem dX1_unitGiven_9 : decode cX1_unitGiven 9 = .ok (.invokevirtual 21, 3) := by decide +kernel
theorem dX1_unitGiven_12 : decode cX1_unitGiven 12 = .ok (.goto 12, 3) := by decide +kernel
theorem dX1_unitGiven_15 : decode cX1_unitGiven 15 = .ok (.aload_n 0, 1) := by decide +kernel
theorem dX1_unitGiven_16 : decode cX1_unitGiven 16 = .ok (.iload_n 1, 1) := by decide +kernel
theorem dX1_unitGiven_17 : decode cX1_unitGiven 17 = .ok (.iconst 3, 1) := by decide +kernel
theorem dX1_unitGiven_18 : decode cX1_unitGiven 18 = .ok (.isub, 1) := by decide +kernel
theorem dX1_unitGiven_19 : decode cX1_unitGiven 19 = .ok (.iload_n 2, 1) := by decide +kernel
theorem dX1_unitGiven_20 : decode cX1_unitGiven 20 = .ok (.iload_n 3, 1) := by decide +kernel
theorem dX1_unitGiven_21 : decode cX1_unitGiven 21 = .ok (.invokevirtual 25, 3) := by decide +kernel
theorem dX1_unitGiven_24 : decode cX1_unitGiven 24 = .ok (.ireturn, 1) := by decide +kernel
theorem dX1_most_0 : decode cX1_most 0 = .ok (.aload_n 0, 1) := by decide +kernel
theorem dX1_most_1 : decode cX1_most 1 = .ok (.iload_n 1, 1) := by decide +kernel
theorem dX1_most_2 : decode cX1_most 2 = .ok (.iload_n 2, 1) := by decide +kernel
theorem dX1_most_3 : decode cX1_most 3 = .ok (.invokevirtual 55, 3) := by decide +kernel
theorem dX1_most_6 : decode cX1_most 6 = .ok (.ifCond .eq 11, 3) := by decide +kernel
theorem dX1_most_9 : decode cX1_most 9 = .ok (.aload_n 0, 1) := by decide +kernel
theorem dX1_most_10 : decode cX1_most 10 = .ok (.iconst 1, 1) := by decide +kernel
theorem dX1_most_11 : decode cX1_most 11 = .ok (.invokevirtual 59, 3) := by decide +kernel
theorem dX1_most_14 : decode cX1_most 14 = .ok (.goto 5, 3) := by decide +kernel
theorem dX1_most_17 : decode cX1_most 17 = .ok (.ldc 31, 2) := by decide +kernel
theorem dX1_most_19 : decode cX1_most 19 = .ok (.ireturn, 1) := by decide +kernel
theorem dX1_take_0 : decode cX1_take 0 = .ok (.aload_n 0, 1) := by decide +kernel
theorem dX1_take_1 : decode cX1_take 1 = .ok (.iload_n 1, 1) := by decide +kernel
theorem dX1_take_2 : decode cX1_take 2 = .ok (.invokevirtual 39, 3) := by decide +kernel
theorem dX1_take_5 : decode cX1_take 5 = .ok (.ifCond .ne 11, 3) := by decide +kernel
theorem dX1_take_8 : decode cX1_take 8 = .ok (.aload_n 0, 1) := by decide +kernel
theorem dX1_take_9 : decode cX1_take 9 = .ok (.iload_n 2, 1) := by decide +kernel
theorem dX1_take_10 : decode cX1_take 10 = .ok (.invokevirtual 39, 3) := by decide +kernel
theorem dX1_take_13 : decode cX1_take 13 = .ok (.ifCond .eq 5, 3) := by decide +kernel
theorem dX1_take_16 : decode cX1_take 16 = .ok (.iconst 0, 1) := by decide +kernel
theorem dX1_take_17 : decode cX1_take 17 = .ok (.ireturn, 1) := by decide +kernel
theorem dX1_take_18 : decode cX1_take 18 = .ok (.aload_n 0, 1) := by decide +kernel
theorem dX1_take_19 : decode cX1_take 19 = .ok (.iload_n 1, 1) := by decide +kernel
theorem dX1_take_20 : decode cX1_take 20 = .ok (.bipush 32, 2) := by decide +kernel
theorem dX1_take_22 : decode cX1_take 22 = .ok (.idiv, 1) := by decide +kernel
theorem dX1_take_23 : decode cX1_take 23 = .ok (.bipush 16, 2) := by decide +kernel
theorem dX1_take_25 : decode cX1_take 25 = .ok (.isub, 1) := by decide +kernel
theorem dX1_take_26 : decode cX1_take 26 = .ok (.putfield 42, 3) := by decide +kernel
theorem dX1_take_29 : decode cX1_take 29 = .ok (.aload_n 0, 1) := by decide +kernel
theorem dX1_take_30 : decode cX1_take 30 = .ok (.iload_n 1, 1) := by decide +kernel
theorem dX1_take_31 : decode cX1_take 31 = .ok (.bipush 32, 2) := by decide +kernel
theorem dX1_take_33 : decode cX1_take 33 = .ok (.irem, 1) := by decide +kernel
theorem dX1_take_34 : decode cX1_take 34 = .ok (.bipush 16, 2) := by decide +kernel
theorem dX1_take_36 : decode cX1_take 36 = .ok (.isub, 1) := by decide +kernel
theorem dX1_take_37 : decode cX1_take 37 = .ok (.putfield 46, 3) := by decide +kernel
theorem dX1_take_40 : decode cX1_take 40 = .ok (.aload_n 0, 1) := by decide +kernel
theorem dX1_take_41 : decode cX1_take 41 = .ok (.iload_n 2, 1) := by decide +kernel
theorem dX1_take_42 : decode cX1_take 42 = .ok (.bipush 32, 2) := by decide +kernel
theorem dX1_take_44 : decode cX1_take 44 = .ok (.idiv, 1) := by decide +kernel
theorem dX1_take_45 : decode cX1_take 45 = .ok (.bipush 16, 2) := by decide +kernel
theorem dX1_take_47 : decode cX1_take 47 = .ok (.isub, 1) := by decide +kernel
theorem dX1_take_48 : decode cX1_take 48 = .ok (.putfield 49, 3) := by decide +kernel
theorem dX1_take_51 : decode cX1_take 51 = .ok (.aload_n 0, 1) := by decide +kernel
theorem dX1_take_52 : decode cX1_take 52 = .ok (.iload_n 2, 1) := by decide +kernel
theorem dX1_take_53 : decode cX1_take 53 = .ok (.bipush 32, 2) := by decide +kernel
theorem dX1_take_55 : decode cX1_take 55 = .ok (.irem, 1) := by decide +kernel
theorem dX1_take_56 : decode cX1_take 56 = .ok (.bipush 16, 2) := by decide +kernel
theorem dX1_take_58 : decode cX1_take 58 = .ok (.isub, 1) := by decide +kernel
theorem dX1_take_59 : decode cX1_take 59 = .ok (.putfield 52, 3) := by decide +kernel
theorem dX1_take_62 : decode cX1_take 62 = .ok (.iconst 1, 1) := by decide +kernel
theorem dX1_take_63 : decode cX1_take 63 = .ok (.ireturn, 1) := by decide +kernel
theorem dX1_badInterval_0 : decode cX1_badInterval 0 = .ok (.iload_n 1, 1) := by decide +kernel
end
section
set_option maxRecDepth 100000
theorem dX1_badInterval_1 : decode cX1_badInterval 1 = .ok (.ifCond .lt 21, 3) := by decide +kernel
theorem dX1_badInterval_4 : decode cX1_badInterval 4 = .ok (.iload_n 1, 1) := by decide +kernel
theorem dX1_badInterval_5 : decode cX1_badInterval 5 = .ok (.sipush 1023, 3) := by decide +kernel
theorem dX1_badInterval_8 : decode cX1_badInterval 8 = .ok (.if_icmp .gt 14, 3) := by decide +kernel
theorem dX1_badInterval_11 : decode cX1_badInterval 11 = .ok (.iload_n 1, 1) := by decide +kernel
theorem dX1_badInterval_12 : decode cX1_badInterval 12 = .ok (.bipush 32, 2) := by decide +kernel
theorem dX1_badInterval_14 : decode cX1_badInterval 14 = .ok (.idiv, 1) := by decide +kernel
theorem dX1_badInterval_15 : decode cX1_badInterval 15 = .ok (.iload_n 1, 1) := by decide +kernel
theorem dX1_badInterval_16 : decode cX1_badInterval 16 = .ok (.bipush 32, 2) := by decide +kernel
theorem dX1_badInterval_18 : decode cX1_badInterval 18 = .ok (.irem, 1) := by decide +kernel
theorem dX1_badInterval_19 : decode cX1_badInterval 19 = .ok (.if_icmp .le 7, 3) := by decide +kernel
theorem dX1_badInterval_22 : decode cX1_badInterval 22 = .ok (.iconst 1, 1) := by decide +kernel
theorem dX1_badInterval_23 : decode cX1_badInterval 23 = .ok (.goto 4, 3) := by decide +kernel
theorem dX1_badInterval_26 : decode cX1_badInterval 26 = .ok (.iconst 0, 1) := by decide +kernel
theorem dX1_badInterval_27 : decode cX1_badInterval 27 = .ok (.ireturn, 1) := by decide +kernel
theorem dX1_extreme_0 : decode cX1_extreme 0 = .ok (.ldc 31, 2) := by decide +kernel
theorem dX1_extreme_2 : decode cX1_extreme 2 = .ok (.istore_n 2, 1) := by decide +kernel
theorem dX1_extreme_3 : decode cX1_extreme 3 = .ok (.aload_n 0, 1) := by decide +kernel
theorem dX1_extreme_4 : decode cX1_extreme 4 = .ok (.getfield 42, 3) := by decide +kernel
theorem dX1_extreme_7 : decode cX1_extreme 7 = .ok (.istore_n 3, 1) := by decide +kernel
theorem dX1_extreme_8 : decode cX1_extreme 8 = .ok (.iload_n 3, 1) := by decide +kernel
theorem dX1_extreme_9 : decode cX1_extreme 9 = .ok (.aload_n 0, 1) := by decide +kernel
theorem dX1_extreme_10 : decode cX1_extreme 10 = .ok (.getfield 46, 3) := by decide +kernel
theorem dX1_extreme_13 : decode cX1_extreme 13 = .ok (.if_icmp .gt 50, 3) := by decide +kernel
theorem dX1_extreme_16 : decode cX1_extreme 16 = .ok (.aload_n 0, 1) := by decide +kernel
theorem dX1_extreme_17 : decode cX1_extreme 17 = .ok (.getfield 49, 3) := by decide +kernel
theorem dX1_extreme_20 : decode cX1_extreme 20 = .ok (.istore 4, 2) := by decide +kernel
theorem dX1_extreme_22 : decode cX1_extreme 22 = .ok (.iload 4, 2) := by decide +kernel
theorem dX1_extreme_24 : decode cX1_extreme 24 = .ok (.aload_n 0, 1) := by decide +kernel
theorem dX1_extreme_25 : decode cX1_extreme 25 = .ok (.getfield 52, 3) := by decide +kernel
theorem dX1_extreme_28 : decode cX1_extreme 28 = .ok (.if_icmp .gt 29, 3) := by decide +kernel
theorem dX1_extreme_31 : decode cX1_extreme 31 = .ok (.iload_n 1, 1) := by decide +kernel
theorem dX1_extreme_32 : decode cX1_extreme 32 = .ok (.aload_n 0, 1) := by decide +kernel
theorem dX1_extreme_33 : decode cX1_extreme 33 = .ok (.iload_n 3, 1) := by decide +kernel
theorem dX1_extreme_34 : decode cX1_extreme 34 = .ok (.iload 4, 2) := by decide +kernel
theorem dX1_extreme_36 : decode cX1_extreme 36 = .ok (.invokevirtual 32, 3) := by decide +kernel
theorem dX1_extreme_39 : decode cX1_extreme 39 = .ok (.imul, 1) := by decide +kernel
theorem dX1_extreme_40 : decode cX1_extreme 40 = .ok (.istore 5, 2) := by decide +kernel
theorem dX1_extreme_42 : decode cX1_extreme 42 = .ok (.iload 5, 2) := by decide +kernel
theorem dX1_extreme_44 : decode cX1_extreme 44 = .ok (.iload_n 2, 1) := by decide +kernel
theorem dX1_extreme_45 : decode cX1_extreme 45 = .ok (.if_icmp .le 6, 3) := by decide +kernel
theorem dX1_extreme_48 : decode cX1_extreme 48 = .ok (.iload 5, 2) := by decide +kernel
theorem dX1_extreme_50 : decode cX1_extreme 50 = .ok (.istore_n 2, 1) := by decide +kernel
theorem dX1_extreme_51 : decode cX1_extreme 51 = .ok (.iinc 4 1, 3) := by decide +kernel
theorem dX1_extreme_54 : decode cX1_extreme 54 = .ok (.goto (-32), 3) := by decide +kernel
theorem dX1_extreme_57 : decode cX1_extreme 57 = .ok (.iinc 3 1, 3) := by decide +kernel
theorem dX1_extreme_60 : decode cX1_extreme 60 = .ok (.goto (-52), 3) := by decide +kernel
theorem dX1_extreme_63 : decode cX1_extreme 63 = .ok (.iload_n 1, 1) := by decide +kernel
theorem dX1_extreme_64 : decode cX1_extreme 64 = .ok (.iload_n 2, 1) := by decide +kernel
theorem dX1_extreme_65 : decode cX1_extreme 65 = .ok (.imul, 1) := by decide +kernel
theorem dX1_extreme_66 : decode cX1_extreme 66 = .ok (.ireturn, 1) := by decide +kernel
theorem dX1_least_0 : decode cX1_least 0 = .ok (.aload_n 0, 1) := by decide +kernel
theorem dX1_least_1 : decode cX1_least 1 = .ok (.iload_n 1, 1) := by decide +kernel
theorem dX1_least_2 : decode cX1_least 2 = .ok (.iload_n 2, 1) := by decide +kernel
theorem dX1_least_3 : decode cX1_least 3 = .ok (.invokevirtual 55, 3) := by decide +kernel
theorem dX1_least_6 : decode cX1_least 6 = .ok (.ifCond .eq 11, 3) := by decide +kernel
theorem dX1_least_9 : decode cX1_least 9 = .ok (.aload_n 0, 1) := by decide +kernel
theorem dX1_least_10 : decode cX1_least 10 = .ok (.iconst (-1), 1) := by decide +kernel
theorem dX1_least_11 : decode cX1_least 11 = .ok (.invokevirtual 59, 3) := by decide +kernel
theorem dX1_least_14 : decode cX1_least 14 = .ok (.goto 5, 3) := by decide +kernel
theorem dX1_least_17 : decode cX1_least 17 = .ok (.ldc 31, 2) := by decide +kernel
theorem dX1_least_19 : decode cX1_least 19 = .ok (.ireturn, 1) := by decide +kernel
theorem dX1_mostAt_0 : decode cX1_mostAt 0 = .ok (.aload_n 0, 1) := by decide +kernel
theorem dX1_mostAt_1 : decode cX1_mostAt 1 = .ok (.iload_n 1, 1) := by decide +kernel
theorem dX1_mostAt_2 : decode cX1_mostAt 2 = .ok (.iload_n 2, 1) := by decide +kernel
theorem dX1_mostAt_3 : decode cX1_mostAt 3 = .ok (.invokevirtual 55, 3) := by decide +kernel
theorem dX1_mostAt_6 : decode cX1_mostAt 6 = .ok (.ifCond .ne 5, 3) := by decide +kernel
theorem dX1_mostAt_9 : decode cX1_mostAt 9 = .ok (.iconst (-1), 1) := by decide +kernel
theorem dX1_mostAt_10 : decode cX1_mostAt 10 = .ok (.ireturn, 1) := by decide +kernel
theorem dX1_mostAt_11 : decode cX1_mostAt 11 = .ok (.aload_n 0, 1) := by decide +kernel
theorem dX1_mostAt_12 : decode cX1_mostAt 12 = .ok (.iconst 1, 1) := by decide +kernel
theorem dX1_mostAt_13 : decode cX1_mostAt 13 = .ok (.invokevirtual 59, 3) := by decide +kernel
theorem dX1_mostAt_16 : decode cX1_mostAt 16 = .ok (.istore_n 3, 1) := by decide +kernel
theorem dX1_mostAt_17 : decode cX1_mostAt 17 = .ok (.aload_n 0, 1) := by decide +kernel
theorem dX1_mostAt_18 : decode cX1_mostAt 18 = .ok (.iload_n 3, 1) := by decide +kernel
theorem dX1_mostAt_19 : decode cX1_mostAt 19 = .ok (.iconst 1, 1) := by decide +kernel
theorem dX1_mostAt_20 : decode cX1_mostAt 20 = .ok (.isub, 1) := by decide +kernel
theorem dX1_mostAt_21 : decode cX1_mostAt 21 = .ok (.invokevirtual 62, 3) := by decide +kernel
theorem dX1_mostAt_24 : decode cX1_mostAt 24 = .ok (.ireturn, 1) := by decide +kernel
theorem dX1_above_0 : decode cX1_above 0 = .ok (.aload_n 0, 1) := by decide +kernel
theorem dX1_above_1 : decode cX1_above 1 = .ok (.getfield 42, 3) := by decide +kernel
theorem dX1_above_4 : decode cX1_above 4 = .ok (.istore_n 2, 1) := by decide +kernel
theorem dX1_above_5 : decode cX1_above 5 = .ok (.iload_n 2, 1) := by decide +kernel
theorem dX1_above_6 : decode cX1_above 6 = .ok (.aload_n 0, 1) := by decide +kernel
theorem dX1_above_7 : decode cX1_above 7 = .ok (.getfield 46, 3) := by decide +kernel
theorem dX1_above_10 : decode cX1_above 10 = .ok (.if_icmp .gt 51, 3) := by decide +kernel
theorem dX1_above_13 : decode cX1_above 13 = .ok (.aload_n 0, 1) := by decide +kernel
theorem dX1_above_14 : decode cX1_above 14 = .ok (.getfield 49, 3) := by decide +kernel
theorem dX1_above_17 : decode cX1_above 17 = .ok (.istore_n 3, 1) := by decide +kernel
theorem dX1_above_18 : decode cX1_above 18 = .ok (.iload_n 3, 1) := by decide +kernel
theorem dX1_above_19 : decode cX1_above 19 = .ok (.aload_n 0, 1) := by decide +kernel
theorem dX1_above_20 : decode cX1_above 20 = .ok (.getfield 52, 3) := by decide +kernel
theorem dX1_above_23 : decode cX1_above 23 = .ok (.if_icmp .gt 32, 3) := by decide +kernel
theorem dX1_above_26 : decode cX1_above 26 = .ok (.aload_n 0, 1) := by decide +kernel
theorem dX1_above_27 : decode cX1_above 27 = .ok (.iload_n 2, 1) := by decide +kernel
theorem dX1_above_28 : decode cX1_above 28 = .ok (.iload_n 3, 1) := by decide +kernel
theorem dX1_above_29 : decode cX1_above 29 = .ok (.invokevirtual 32, 3) := by decide +kernel
theorem dX1_above_32 : decode cX1_above 32 = .ok (.iload_n 1, 1) := by decide +kernel
theorem dX1_above_33 : decode cX1_above 33 = .ok (.if_icmp .le 16, 3) := by decide +kernel
theorem dX1_above_36 : decode cX1_above 36 = .ok (.bipush 32, 2) := by decide +kernel
theorem dX1_above_38 : decode cX1_above 38 = .ok (.iload_n 2, 1) := by decide +kernel
theorem dX1_above_39 : decode cX1_above 39 = .ok (.bipush 16, 2) := by decide +kernel
theorem dX1_above_41 : decode cX1_above 41 = .ok (.iadd, 1) := by decide +kernel
theorem dX1_above_42 : decode cX1_above 42 = .ok (.imul, 1) := by decide +kernel
theorem dX1_above_43 : decode cX1_above 43 = .ok (.iload_n 3, 1) := by decide +kernel
theorem dX1_above_44 : decode cX1_above 44 = .ok (.iadd, 1) := by decide +kernel
theorem dX1_above_45 : decode cX1_above 45 = .ok (.bipush 16, 2) := by decide +kernel
theorem dX1_above_47 : decode cX1_above 47 = .ok (.iadd, 1) := by decide +kernel
theorem dX1_above_48 : decode cX1_above 48 = .ok (.ireturn, 1) := by decide +kernel
theorem dX1_above_49 : decode cX1_above 49 = .ok (.iinc 3 1, 3) := by decide +kernel
theorem dX1_above_52 : decode cX1_above 52 = .ok (.goto (-34), 3) := by decide +kernel
theorem dX1_above_55 : decode cX1_above 55 = .ok (.iinc 2 1, 3) := by decide +kernel
theorem dX1_above_58 : decode cX1_above 58 = .ok (.goto (-53), 3) := by decide +kernel
theorem dX1_above_61 : decode cX1_above 61 = .ok (.bipush (-2), 2) := by decide +kernel
theorem dX1_above_63 : decode cX1_above 63 = .ok (.ireturn, 1) := by decide +kernel
theorem dX1_safe_0 : decode cX1_safe 0 = .ok (.aload_n 0, 1) := by decide +kernel
theorem dX1_safe_1 : decode cX1_safe 1 = .ok (.iload_n 1, 1) := by decide +kernel
theorem dX1_safe_2 : decode cX1_safe 2 = .ok (.iload_n 2, 1) := by decide +kernel
theorem dX1_safe_3 : decode cX1_safe 3 = .ok (.invokevirtual 55, 3) := by decide +kernel
theorem dX1_safe_6 : decode cX1_safe 6 = .ok (.ifCond .ne 5, 3) := by decide +kernel
theorem dX1_safe_9 : decode cX1_safe 9 = .ok (.iconst (-1), 1) := by decide +kernel
theorem dX1_safe_10 : decode cX1_safe 10 = .ok (.ireturn, 1) := by decide +kernel
theorem dX1_safe_11 : decode cX1_safe 11 = .ok (.aload_n 0, 1) := by decide +kernel
theorem dX1_safe_12 : decode cX1_safe 12 = .ok (.iload_n 3, 1) := by decide +kernel
theorem dX1_safe_13 : decode cX1_safe 13 = .ok (.invokevirtual 62, 3) := by decide +kernel
theorem dX1_safe_16 : decode cX1_safe 16 = .ok (.ifCond .ge 7, 3) := by decide +kernel
theorem dX1_safe_19 : decode cX1_safe 19 = .ok (.iconst 1, 1) := by decide +kernel
theorem dX1_safe_20 : decode cX1_safe 20 = .ok (.goto 4, 3) := by decide +kernel
theorem dX1_safe_23 : decode cX1_safe 23 = .ok (.iconst 0, 1) := by decide +kernel
theorem dX1_safe_24 : decode cX1_safe 24 = .ok (.ireturn, 1) := by decide +kernel
theorem dX1_breach_0 : decode cX1_breach 0 = .ok (.aload_n 0, 1) := by decide +kernel
theorem dX1_breach_1 : decode cX1_breach 1 = .ok (.iload_n 1, 1) := by decide +kernel
theorem dX1_breach_2 : decode cX1_breach 2 = .ok (.iload_n 2, 1) := by decide +kernel
theorem dX1_breach_3 : decode cX1_breach 3 = .ok (.invokevirtual 55, 3) := by decide +kernel
theorem dX1_breach_6 : decode cX1_breach 6 = .ok (.ifCond .eq 11, 3) := by decide +kernel
theorem dX1_breach_9 : decode cX1_breach 9 = .ok (.aload_n 0, 1) := by decide +kernel
theorem dX1_breach_10 : decode cX1_breach 10 = .ok (.iload_n 3, 1) := by decide +kernel
theorem dX1_breach_11 : decode cX1_breach 11 = .ok (.invokevirtual 62, 3) := by decide +kernel
theorem dX1_breach_14 : decode cX1_breach 14 = .ok (.goto 4, 3) := by decide +kernel
theorem dX1_breach_17 : decode cX1_breach 17 = .ok (.iconst (-1), 1) := by decide +kernel
theorem dX1_breach_18 : decode cX1_breach 18 = .ok (.ireturn, 1) := by decide +kernel
theorem dX1_fixed_0 : decode cX1_fixed 0 = .ok (.iload_n 1, 1) := by decide +kernel
theorem dX1_fixed_1 : decode cX1_fixed 1 = .ok (.ifCond .lt 8, 3) := by decide +kernel
theorem dX1_fixed_4 : decode cX1_fixed 4 = .ok (.iload_n 1, 1) := by decide +kernel
theorem dX1_fixed_5 : decode cX1_fixed 5 = .ok (.iconst 4, 1) := by decide +kernel
theorem dX1_fixed_6 : decode cX1_fixed 6 = .ok (.if_icmp .le 5, 3) := by decide +kernel
theorem dX1_fixed_9 : decode cX1_fixed 9 = .ok (.iconst (-1), 1) := by decide +kernel
theorem dX1_fixed_10 : decode cX1_fixed 10 = .ok (.ireturn, 1) := by decide +kernel
theorem dX1_fixed_11 : decode cX1_fixed 11 = .ok (.aload_n 0, 1) := by decide +kernel
theorem dX1_fixed_12 : decode cX1_fixed 12 = .ok (.iload_n 2, 1) := by decide +kernel
theorem dX1_fixed_13 : decode cX1_fixed 13 = .ok (.iload_n 3, 1) := by decide +kernel
theorem dX1_fixed_14 : decode cX1_fixed 14 = .ok (.invokevirtual 55, 3) := by decide +kernel
theorem dX1_fixed_17 : decode cX1_fixed 17 = .ok (.ifCond .ne 6, 3) := by decide +kernel
theorem dX1_fixed_20 : decode cX1_fixed 20 = .ok (.bipush (-2), 2) := by decide +kernel
theorem dX1_fixed_22 : decode cX1_fixed 22 = .ok (.ireturn, 1) := by decide +kernel
theorem dX1_fixed_23 : decode cX1_fixed 23 = .ok (.iconst 0, 1) := by decide +kernel
theorem dX1_fixed_24 : decode cX1_fixed 24 = .ok (.istore 4, 2) := by decide +kernel
theorem dX1_fixed_26 : decode cX1_fixed 26 = .ok (.iconst 0, 1) := by decide +kernel
theorem dX1_fixed_27 : decode cX1_fixed 27 = .ok (.istore 5, 2) := by decide +kernel
theorem dX1_fixed_29 : decode cX1_fixed 29 = .ok (.aload_n 0, 1) := by decide +kernel
theorem dX1_fixed_30 : decode cX1_fixed 30 = .ok (.getfield 42, 3) := by decide +kernel
theorem dX1_fixed_33 : decode cX1_fixed 33 = .ok (.istore 6, 2) := by decide +kernel
theorem dX1_fixed_35 : decode cX1_fixed 35 = .ok (.iload 6, 2) := by decide +kernel
theorem dX1_fixed_37 : decode cX1_fixed 37 = .ok (.aload_n 0, 1) := by decide +kernel
theorem dX1_fixed_38 : decode cX1_fixed 38 = .ok (.getfield 46, 3) := by decide +kernel
theorem dX1_fixed_41 : decode cX1_fixed 41 = .ok (.if_icmp .gt 51, 3) := by decide +kernel
theorem dX1_fixed_44 : decode cX1_fixed 44 = .ok (.aload_n 0, 1) := by decide +kernel
theorem dX1_fixed_45 : decode cX1_fixed 45 = .ok (.getfield 49, 3) := by decide +kernel
theorem dX1_fixed_48 : decode cX1_fixed 48 = .ok (.istore 7, 2) := by decide +kernel
theorem dX1_fixed_50 : decode cX1_fixed 50 = .ok (.iload 7, 2) := by decide +kernel
theorem dX1_fixed_52 : decode cX1_fixed 52 = .ok (.aload_n 0, 1) := by decide +kernel
theorem dX1_fixed_53 : decode cX1_fixed 53 = .ok (.getfield 52, 3) := by decide +kernel
theorem dX1_fixed_56 : decode cX1_fixed 56 = .ok (.if_icmp .gt 30, 3) := by decide +kernel
theorem dX1_fixed_59 : decode cX1_fixed 59 = .ok (.aload_n 0, 1) := by decide +kernel
theorem dX1_fixed_60 : decode cX1_fixed 60 = .ok (.iload_n 1, 1) := by decide +kernel
theorem dX1_fixed_61 : decode cX1_fixed 61 = .ok (.iload 6, 2) := by decide +kernel
theorem dX1_fixed_63 : decode cX1_fixed 63 = .ok (.iload 7, 2) := by decide +kernel
theorem dX1_fixed_65 : decode cX1_fixed 65 = .ok (.invokevirtual 36, 3) := by decide +kernel
theorem dX1_fixed_68 : decode cX1_fixed 68 = .ok (.ifCond .le 9, 3) := by decide +kernel
theorem dX1_fixed_71 : decode cX1_fixed 71 = .ok (.iconst 1, 1) := by decide +kernel
theorem dX1_fixed_72 : decode cX1_fixed 72 = .ok (.istore 4, 2) := by decide +kernel
theorem dX1_fixed_74 : decode cX1_fixed 74 = .ok (.goto 6, 3) := by decide +kernel
theorem dX1_fixed_77 : decode cX1_fixed 77 = .ok (.iconst 1, 1) := by decide +kernel
theorem dX1_fixed_78 : decode cX1_fixed 78 = .ok (.istore 5, 2) := by decide +kernel
theorem dX1_fixed_80 : decode cX1_fixed 80 = .ok (.iinc 7 1, 3) := by decide +kernel
theorem dX1_fixed_83 : decode cX1_fixed 83 = .ok (.goto (-33), 3) := by decide +kernel
theorem dX1_fixed_86 : decode cX1_fixed 86 = .ok (.iinc 6 1, 3) := by decide +kernel
theorem dX1_fixed_89 : decode cX1_fixed 89 = .ok (.goto (-54), 3) := by decide +kernel
theorem dX1_fixed_92 : decode cX1_fixed 92 = .ok (.iload 4, 2) := by decide +kernel
theorem dX1_fixed_94 : decode cX1_fixed 94 = .ok (.ifCond .eq 12, 3) := by decide +kernel
theorem dX1_fixed_97 : decode cX1_fixed 97 = .ok (.iload 5, 2) := by decide +kernel
theorem dX1_fixed_99 : decode cX1_fixed 99 = .ok (.ifCond .eq 7, 3) := by decide +kernel
theorem dX1_fixed_102 : decode cX1_fixed 102 = .ok (.iconst 0, 1) := by decide +kernel
theorem dX1_fixed_103 : decode cX1_fixed 103 = .ok (.goto 13, 3) := by decide +kernel
theorem dX1_fixed_106 : decode cX1_fixed 106 = .ok (.iload 5, 2) := by decide +kernel
theorem dX1_fixed_108 : decode cX1_fixed 108 = .ok (.ifCond .eq 7, 3) := by decide +kernel
theorem dX1_fixed_111 : decode cX1_fixed 111 = .ok (.iconst 1, 1) := by decide +kernel
theorem dX1_fixed_112 : decode cX1_fixed 112 = .ok (.goto 4, 3) := by decide +kernel
theorem dX1_fixed_115 : decode cX1_fixed 115 = .ok (.iconst 2, 1) := by decide +kernel
theorem dX1_fixed_116 : decode cX1_fixed 116 = .ok (.ireturn, 1) := by decide +kernel
theorem dX1_radius_0 : decode cX1_radius 0 = .ok (.aload_n 0, 1) := by decide +kernel
theorem dX1_radius_1 : decode cX1_radius 1 = .ok (.iload_n 1, 1) := by decide +kernel
theorem dX1_radius_2 : decode cX1_radius 2 = .ok (.invokevirtual 28, 3) := by decide +kernel
theorem dX1_radius_5 : decode cX1_radius 5 = .ok (.ifCond .ne 11, 3) := by decide +kernel
theorem dX1_radius_8 : decode cX1_radius 8 = .ok (.aload_n 0, 1) := by decide +kernel
theorem dX1_radius_9 : decode cX1_radius 9 = .ok (.iload_n 2, 1) := by decide +kernel
theorem dX1_radius_10 : decode cX1_radius 10 = .ok (.invokevirtual 28, 3) := by decide +kernel
theorem dX1_radius_13 : decode cX1_radius 13 = .ok (.ifCond .eq 5, 3) := by decide +kernel
theorem dX1_radius_16 : decode cX1_radius 16 = .ok (.iconst (-1), 1) := by decide +kernel
theorem dX1_radius_17 : decode cX1_radius 17 = .ok (.ireturn, 1) := by decide +kernel
theorem dX1_radius_18 : decode cX1_radius 18 = .ok (.iconst 0, 1) := by decide +kernel
theorem dX1_radius_19 : decode cX1_radius 19 = .ok (.istore 4, 2) := by decide +kernel
theorem dX1_radius_21 : decode cX1_radius 21 = .ok (.iload 4, 2) := by decide +kernel
theorem dX1_radius_23 : decode cX1_radius 23 = .ok (.bipush 32, 2) := by decide +kernel
theorem dX1_radius_25 : decode cX1_radius 25 = .ok (.if_icmp .ge 120, 3) := by decide +kernel
theorem dX1_radius_28 : decode cX1_radius 28 = .ok (.aload_n 0, 1) := by decide +kernel
theorem dX1_radius_29 : decode cX1_radius 29 = .ok (.iload_n 1, 1) := by decide +kernel
theorem dX1_radius_30 : decode cX1_radius 30 = .ok (.iload 4, 2) := by decide +kernel
theorem dX1_radius_32 : decode cX1_radius 32 = .ok (.isub, 1) := by decide +kernel
theorem dX1_radius_33 : decode cX1_radius 33 = .ok (.bipush (-16), 2) := by decide +kernel
theorem dX1_radius_35 : decode cX1_radius 35 = .ok (.if_icmp .ge 8, 3) := by decide +kernel
theorem dX1_radius_38 : decode cX1_radius 38 = .ok (.bipush (-16), 2) := by decide +kernel
theorem dX1_radius_40 : decode cX1_radius 40 = .ok (.goto 7, 3) := by decide +kernel
theorem dX1_radius_43 : decode cX1_radius 43 = .ok (.iload_n 1, 1) := by decide +kernel
theorem dX1_radius_44 : decode cX1_radius 44 = .ok (.iload 4, 2) := by decide +kernel
theorem dX1_radius_46 : decode cX1_radius 46 = .ok (.isub, 1) := by decide +kernel
theorem dX1_radius_47 : decode cX1_radius 47 = .ok (.putfield 42, 3) := by decide +kernel
theorem dX1_radius_50 : decode cX1_radius 50 = .ok (.aload_n 0, 1) := by decide +kernel
theorem dX1_radius_51 : decode cX1_radius 51 = .ok (.iload_n 1, 1) := by decide +kernel
theorem dX1_radius_52 : decode cX1_radius 52 = .ok (.iload 4, 2) := by decide +kernel
theorem dX1_radius_54 : decode cX1_radius 54 = .ok (.iadd, 1) := by decide +kernel
theorem dX1_radius_55 : decode cX1_radius 55 = .ok (.bipush 15, 2) := by decide +kernel
theorem dX1_radius_57 : decode cX1_radius 57 = .ok (.if_icmp .le 8, 3) := by decide +kernel
theorem dX1_radius_60 : decode cX1_radius 60 = .ok (.bipush 15, 2) := by decide +kernel
theorem dX1_radius_62 : decode cX1_radius 62 = .ok (.goto 7, 3) := by decide +kernel
theorem dX1_radius_65 : decode cX1_radius 65 = .ok (.iload_n 1, 1) := by decide +kernel
theorem dX1_radius_66 : decode cX1_radius 66 = .ok (.iload 4, 2) := by decide +kernel
theorem dX1_radius_68 : decode cX1_radius 68 = .ok (.iadd, 1) := by decide +kernel
theorem dX1_radius_69 : decode cX1_radius 69 = .ok (.putfield 46, 3) := by decide +kernel
theorem dX1_radius_72 : decode cX1_radius 72 = .ok (.aload_n 0, 1) := by decide +kernel
theorem dX1_radius_73 : decode cX1_radius 73 = .ok (.iload_n 2, 1) := by decide +kernel
theorem dX1_radius_74 : decode cX1_radius 74 = .ok (.iload 4, 2) := by decide +kernel
theorem dX1_radius_76 : decode cX1_radius 76 = .ok (.isub, 1) := by decide +kernel
theorem dX1_radius_77 : decode cX1_radius 77 = .ok (.bipush (-16), 2) := by decide +kernel
theorem dX1_radius_79 : decode cX1_radius 79 = .ok (.if_icmp .ge 8, 3) := by decide +kernel
theorem dX1_radius_82 : decode cX1_radius 82 = .ok (.bipush (-16), 2) := by decide +kernel
theorem dX1_radius_84 : decode cX1_radius 84 = .ok (.goto 7, 3) := by decide +kernel
theorem dX1_radius_87 : decode cX1_radius 87 = .ok (.iload_n 2, 1) := by decide +kernel
theorem dX1_radius_88 : decode cX1_radius 88 = .ok (.iload 4, 2) := by decide +kernel
theorem dX1_radius_90 : decode cX1_radius 90 = .ok (.isub, 1) := by decide +kernel
theorem dX1_radius_91 : decode cX1_radius 91 = .ok (.putfield 49, 3) := by decide +kernel
theorem dX1_radius_94 : decode cX1_radius 94 = .ok (.aload_n 0, 1) := by decide +kernel
theorem dX1_radius_95 : decode cX1_radius 95 = .ok (.iload_n 2, 1) := by decide +kernel
theorem dX1_radius_96 : decode cX1_radius 96 = .ok (.iload 4, 2) := by decide +kernel
theorem dX1_radius_98 : decode cX1_radius 98 = .ok (.iadd, 1) := by decide +kernel
theorem dX1_radius_99 : decode cX1_radius 99 = .ok (.bipush 15, 2) := by decide +kernel
theorem dX1_radius_101 : decode cX1_radius 101 = .ok (.if_icmp .le 8, 3) := by decide +kernel
theorem dX1_radius_104 : decode cX1_radius 104 = .ok (.bipush 15, 2) := by decide +kernel
theorem dX1_radius_106 : decode cX1_radius 106 = .ok (.goto 7, 3) := by decide +kernel
theorem dX1_radius_109 : decode cX1_radius 109 = .ok (.iload_n 2, 1) := by decide +kernel
theorem dX1_radius_110 : decode cX1_radius 110 = .ok (.iload 4, 2) := by decide +kernel
theorem dX1_radius_112 : decode cX1_radius 112 = .ok (.iadd, 1) := by decide +kernel
theorem dX1_radius_113 : decode cX1_radius 113 = .ok (.putfield 52, 3) := by decide +kernel
theorem dX1_radius_116 : decode cX1_radius 116 = .ok (.aload_n 0, 1) := by decide +kernel
theorem dX1_radius_117 : decode cX1_radius 117 = .ok (.iload_n 3, 1) := by decide +kernel
theorem dX1_radius_118 : decode cX1_radius 118 = .ok (.invokevirtual 62, 3) := by decide +kernel
theorem dX1_radius_121 : decode cX1_radius 121 = .ok (.ifCond .lt 18, 3) := by decide +kernel
theorem dX1_radius_124 : decode cX1_radius 124 = .ok (.iload 4, 2) := by decide +kernel
theorem dX1_radius_126 : decode cX1_radius 126 = .ok (.ifCond .ne 8, 3) := by decide +kernel
theorem dX1_radius_129 : decode cX1_radius 129 = .ok (.bipush (-2), 2) := by decide +kernel
theorem dX1_radius_131 : decode cX1_radius 131 = .ok (.goto 7, 3) := by decide +kernel
theorem dX1_radius_134 : decode cX1_radius 134 = .ok (.iload 4, 2) := by decide +kernel
theorem dX1_radius_136 : decode cX1_radius 136 = .ok (.iconst 1, 1) := by decide +kernel
theorem dX1_radius_137 : decode cX1_radius 137 = .ok (.isub, 1) := by decide +kernel
theorem dX1_radius_138 : decode cX1_radius 138 = .ok (.ireturn, 1) := by decide +kernel
theorem dX1_radius_139 : decode cX1_radius 139 = .ok (.iinc 4 1, 3) := by decide +kernel
theorem dX1_radius_142 : decode cX1_radius 142 = .ok (.goto (-121), 3) := by decide +kernel
theorem dX1_radius_145 : decode cX1_radius 145 = .ok (.bipush 31, 2) := by decide +kernel
theorem dX1_radius_147 : decode cX1_radius 147 = .ok (.ireturn, 1) := by decide +kernel
theorem dX1_patterns_0 : decode cX1_patterns 0 = .ok (.aload_n 0, 1) := by decide +kernel
theorem dX1_patterns_1 : decode cX1_patterns 1 = .ok (.iload_n 1, 1) := by decide +kernel
theorem dX1_patterns_2 : decode cX1_patterns 2 = .ok (.iload_n 2, 1) := by decide +kernel
theorem dX1_patterns_3 : decode cX1_patterns 3 = .ok (.invokevirtual 55, 3) := by decide +kernel
theorem dX1_patterns_6 : decode cX1_patterns 6 = .ok (.ifCond .ne 5, 3) := by decide +kernel
theorem dX1_patterns_9 : decode cX1_patterns 9 = .ok (.iconst (-1), 1) := by decide +kernel
theorem dX1_patterns_10 : decode cX1_patterns 10 = .ok (.ireturn, 1) := by decide +kernel
theorem dX1_patterns_11 : decode cX1_patterns 11 = .ok (.iconst 0, 1) := by decide +kernel
theorem dX1_patterns_12 : decode cX1_patterns 12 = .ok (.istore_n 3, 1) := by decide +kernel
theorem dX1_patterns_13 : decode cX1_patterns 13 = .ok (.aload_n 0, 1) := by decide +kernel
theorem dX1_patterns_14 : decode cX1_patterns 14 = .ok (.getfield 42, 3) := by decide +kernel
theorem dX1_patterns_17 : decode cX1_patterns 17 = .ok (.istore 4, 2) := by decide +kernel
theorem dX1_patterns_19 : decode cX1_patterns 19 = .ok (.iload 4, 2) := by decide +kernel
theorem dX1_patterns_21 : decode cX1_patterns 21 = .ok (.aload_n 0, 1) := by decide +kernel
theorem dX1_patterns_22 : decode cX1_patterns 22 = .ok (.getfield 46, 3) := by decide +kernel
theorem dX1_patterns_25 : decode cX1_patterns 25 = .ok (.if_icmp .gt 43, 3) := by decide +kernel
theorem dX1_patterns_28 : decode cX1_patterns 28 = .ok (.aload_n 0, 1) := by decide +kernel
theorem dX1_patterns_29 : decode cX1_patterns 29 = .ok (.getfield 49, 3) := by decide +kernel
theorem dX1_patterns_32 : decode cX1_patterns 32 = .ok (.istore 5, 2) := by decide +kernel
theorem dX1_patterns_34 : decode cX1_patterns 34 = .ok (.iload 5, 2) := by decide +kernel
theorem dX1_patterns_36 : decode cX1_patterns 36 = .ok (.aload_n 0, 1) := by decide +kernel
theorem dX1_patterns_37 : decode cX1_patterns 37 = .ok (.getfield 52, 3) := by decide +kernel
theorem dX1_patterns_40 : decode cX1_patterns 40 = .ok (.if_icmp .gt 22, 3) := by decide +kernel
theorem dX1_patterns_43 : decode cX1_patterns 43 = .ok (.iload_n 3, 1) := by decide +kernel
theorem dX1_patterns_44 : decode cX1_patterns 44 = .ok (.iconst 1, 1) := by decide +kernel
theorem dX1_patterns_45 : decode cX1_patterns 45 = .ok (.aload_n 0, 1) := by decide +kernel
theorem dX1_patterns_46 : decode cX1_patterns 46 = .ok (.iload 4, 2) := by decide +kernel
theorem dX1_patterns_48 : decode cX1_patterns 48 = .ok (.iload 5, 2) := by decide +kernel
theorem dX1_patterns_50 : decode cX1_patterns 50 = .ok (.invokevirtual 65, 3) := by decide +kernel
theorem dX1_patterns_53 : decode cX1_patterns 53 = .ok (.ishl, 1) := by decide +kernel
theorem dX1_patterns_54 : decode cX1_patterns 54 = .ok (.ior, 1) := by decide +kernel
theorem dX1_patterns_55 : decode cX1_patterns 55 = .ok (.istore_n 3, 1) := by decide +kernel
theorem dX1_patterns_56 : decode cX1_patterns 56 = .ok (.iinc 5 1, 3) := by decide +kernel
theorem dX1_patterns_59 : decode cX1_patterns 59 = .ok (.goto (-25), 3) := by decide +kernel
theorem dX1_patterns_62 : decode cX1_patterns 62 = .ok (.iinc 4 1, 3) := by decide +kernel
theorem dX1_patterns_65 : decode cX1_patterns 65 = .ok (.goto (-46), 3) := by decide +kernel
theorem dX1_patterns_68 : decode cX1_patterns 68 = .ok (.iconst 0, 1) := by decide +kernel
theorem dX1_patterns_69 : decode cX1_patterns 69 = .ok (.istore 4, 2) := by decide +kernel
theorem dX1_patterns_71 : decode cX1_patterns 71 = .ok (.iconst 0, 1) := by decide +kernel
theorem dX1_patterns_72 : decode cX1_patterns 72 = .ok (.istore 5, 2) := by decide +kernel
theorem dX1_patterns_74 : decode cX1_patterns 74 = .ok (.iload 5, 2) := by decide +kernel
theorem dX1_patterns_76 : decode cX1_patterns 76 = .ok (.bipush 32, 2) := by decide +kernel
theorem dX1_patterns_78 : decode cX1_patterns 78 = .ok (.if_icmp .ge 20, 3) := by decide +kernel
theorem dX1_patterns_81 : decode cX1_patterns 81 = .ok (.iload 4, 2) := by decide +kernel
theorem dX1_patterns_83 : decode cX1_patterns 83 = .ok (.iload_n 3, 1) := by decide +kernel
theorem dX1_patterns_84 : decode cX1_patterns 84 = .ok (.iload 5, 2) := by decide +kernel
theorem dX1_patterns_86 : decode cX1_patterns 86 = .ok (.ishr, 1) := by decide +kernel
theorem dX1_patterns_87 : decode cX1_patterns 87 = .ok (.iconst 1, 1) := by decide +kernel
theorem dX1_patterns_88 : decode cX1_patterns 88 = .ok (.iand, 1) := by decide +kernel
theorem dX1_patterns_89 : decode cX1_patterns 89 = .ok (.iadd, 1) := by decide +kernel
theorem dX1_patterns_90 : decode cX1_patterns 90 = .ok (.istore 4, 2) := by decide +kernel
theorem dX1_patterns_92 : decode cX1_patterns 92 = .ok (.iinc 5 1, 3) := by decide +kernel
theorem dX1_patterns_95 : decode cX1_patterns 95 = .ok (.goto (-21), 3) := by decide +kernel
theorem dX1_patterns_98 : decode cX1_patterns 98 = .ok (.iload 4, 2) := by decide +kernel
theorem dX1_patterns_100 : decode cX1_patterns 100 = .ok (.ireturn, 1) := by decide +kernel
theorem dX1_marks_0 : decode cX1_marks 0 = .ok (.iconst 0, 1) := by decide +kernel
theorem dX1_marks_1 : decode cX1_marks 1 = .ok (.istore_n 3, 1) := by decide +kernel
theorem dX1_marks_2 : decode cX1_marks 2 = .ok (.iconst 0, 1) := by decide +kernel
theorem dX1_marks_3 : decode cX1_marks 3 = .ok (.istore 4, 2) := by decide +kernel
theorem dX1_marks_5 : decode cX1_marks 5 = .ok (.iload 4, 2) := by decide +kernel
theorem dX1_marks_7 : decode cX1_marks 7 = .ok (.iconst 5, 1) := by decide +kernel
theorem dX1_marks_8 : decode cX1_marks 8 = .ok (.if_icmp .ge 27, 3) := by decide +kernel
theorem dX1_marks_11 : decode cX1_marks 11 = .ok (.aload_n 0, 1) := by decide +kernel
theorem dX1_marks_12 : decode cX1_marks 12 = .ok (.iload 4, 2) := by decide +kernel
theorem dX1_marks_14 : decode cX1_marks 14 = .ok (.iload_n 1, 1) := by decide +kernel
theorem dX1_marks_15 : decode cX1_marks 15 = .ok (.iload_n 2, 1) := by decide +kernel
theorem dX1_marks_16 : decode cX1_marks 16 = .ok (.invokevirtual 36, 3) := by decide +kernel
theorem dX1_marks_19 : decode cX1_marks 19 = .ok (.ifCond .le 10, 3) := by decide +kernel
theorem dX1_marks_22 : decode cX1_marks 22 = .ok (.iload_n 3, 1) := by decide +kernel
theorem dX1_marks_23 : decode cX1_marks 23 = .ok (.iconst 1, 1) := by decide +kernel
theorem dX1_marks_24 : decode cX1_marks 24 = .ok (.iload 4, 2) := by decide +kernel
theorem dX1_marks_26 : decode cX1_marks 26 = .ok (.ishl, 1) := by decide +kernel
theorem dX1_marks_27 : decode cX1_marks 27 = .ok (.ior, 1) := by decide +kernel
theorem dX1_marks_28 : decode cX1_marks 28 = .ok (.istore_n 3, 1) := by decide +kernel
theorem dX1_marks_29 : decode cX1_marks 29 = .ok (.iinc 4 1, 3) := by decide +kernel
theorem dX1_marks_32 : decode cX1_marks 32 = .ok (.goto (-27), 3) := by decide +kernel
theorem dX1_marks_35 : decode cX1_marks 35 = .ok (.iload_n 3, 1) := by decide +kernel
theorem dX1_marks_36 : decode cX1_marks 36 = .ok (.ireturn, 1) := by decide +kernel
end
section
/-! THE LAYER: a walk's goal as 'X u pc vs st': u the world's picture, vs the first locals, st the stack -/
set_option maxRecDepth 100000
def iI (a : Int) : Int32 := Int32.ofInt a
abbrev vI (a : Int) : Value := .int (iI a)
theorem iI_add (a b : Int) : iI a + iI b = iI (a + b) := (Int32.ofInt_add a b).symm
theorem iI_sub (a b : Int) : iI a - iI b = iI (a - b) := (Int32.ofInt_sub a b).symm
theorem iI_mul (a b : Int) : iI a * iI b = iI (a * b) := (Int32.ofInt_mul a b).symm
theorem iI_neg (a : Int) : -iI a = iI (-a) := (Int32.ofInt_neg a).symm
abbrev inR (a : Int) : Prop := -2147483648 ≤ a ∧ a < 2147483648
theorem iI_toInt {a : Int} (h : inR a) : (iI a).toInt = a := Int32.toInt_ofInt_of_le (by have := h.1; omega) (by have := h.2; omega)
theorem iI_le {a b : Int} (ha : inR a) (hb : inR b) : iI a ≤ iI b ↔ a ≤ b := by rw [Int32.le_iff_toInt_le, iI_toInt ha, iI_toInt hb]
theorem iI_lt {a b : Int} (ha : inR a) (hb : inR b) : iI a < iI b ↔ a < b := by rw [Int32.lt_iff_toInt_lt, iI_toInt ha, iI_toInt hb]
theorem iI_eq {a b : Int} (ha : inR a) (hb : inR b) : iI a = iI b ↔ a = b := by rw [← Int32.toInt_inj, iI_toInt ha, iI_toInt hb]
theorem iI_of (x : Int32) : inR x.toInt ∧ x = iI x.toInt := ⟨⟨by have := x.le_toInt; omega, by have := x.toInt_lt; omega⟩, (Int32.ofInt_toInt x).symm⟩
theorem iI_ex (x : Int32) : ∃ a, inR a ∧ x = iI a := ⟨_, iI_of x⟩
theorem iI_nI (n : Nat) : iI (n : Int) = nI n := Int32.ofInt_eq_ofNat
theorem iI_0 : iI 0 = 0 := by decide +kernel
theorem r0 : inR 0 := by decide
theorem iI_cl {n : Nat} (h : n < 2 ^ 31) : (iI (n : Int)).toNatClampNeg = n := by rw [iI_nI]; exact nI_clamp h
theorem iI_in {n N : Nat} (h : n < N) (hN : N < 2 ^ 31) : vp_in (iI (n : Int)) N := by rw [iI_nI]; exact vp_in_nI h hN
/-- the first locals, all of one slot -/
def LH (ls : Array Slot) (nL : Nat) (vs : List Value) : Prop := ls.size = nL ∧ lv_wf ls ∧ (∀ v ∈ vs, v.category = 1) ∧ ∀ (i : Nat) (v : Value), vs[i]? = some v → ls[i]? = some (.val v)
def xset (vs : List Value) (i : Nat) (v : Value) : List Value := if i < vs.length then vs.set i v else vs ++ [v]
theorem LH.take {ls : Array Slot} {nL : Nat} {vs : List Value} (h : LH ls nL vs) (n : Nat) : LH ls nL (vs.take n) := by
  refine ⟨h.1, h.2.1, fun v hv => h.2.2.1 v (List.mem_of_mem_take hv), fun i v hi => h.2.2.2 i v ?_⟩
  rw [List.getElem?_take] at hi
  split at hi
  · exact hi
  · cases hi
def lhL (vs : List Value) : List (Nat × Value) := vs.mapIdx (fun i v => (i, v))
theorem lhL_mem {vs : List Value} {i : Nat} {v : Value} : (i, v) ∈ lhL vs ↔ vs[i]? = some v := by
  unfold lhL
  rw [List.mem_iff_getElem?]
  constructor
  · rintro ⟨j, hj⟩
    rw [List.getElem?_mapIdx] at hj
    cases h : vs[j]? with
    | none => rw [h] at hj; cases hj
    | some w =>
      rw [h] at hj
      simp at hj
      obtain ⟨rfl, rfl⟩ := hj
      exact h
  · intro h
    exact ⟨i, by rw [List.getElem?_mapIdx, h]; rfl⟩
theorem LH.has {ls : Array Slot} {nL : Nat} {vs : List Value} (h : LH ls nL vs) : lv_has ls nL (lhL vs) := ⟨h.1, h.2.1, fun q hq => h.2.2.2 q.1 q.2 (lhL_mem.mp hq)⟩
theorem LH.store {ls' : Array Slot} {nL : Nat} {vs : List Value} {i : Nat} {v : Value} (hv : v.category = 1) (hc : ∀ w ∈ vs, w.category = 1) (hi : i ≤ vs.length)
    (h : lv_has ls' nL ((i, v) :: (lhL vs).filter (fun q => !(q.1 == i) && !(q.1 + 1 == i && q.2.category == 2)))) : LH ls' nL (xset vs i v) := by
  have key : ∀ (j : Nat) (w : Value), vs[j]? = some w → j ≠ i → ls'[j]? = some (.val w) := by
    intro j w hj hne
    refine h.2.2 (j, w) (List.mem_cons_of_mem _ (List.mem_filter.mpr ⟨lhL_mem.mpr hj, ?_⟩))
    have h1 : w.category = 1 := hc w (List.mem_of_getElem? hj)
    simp [hne, h1]
  have hself : ls'[i]? = some (.val v) := h.2.2 (i, v) List.mem_cons_self
  unfold xset
  split
  · next hlt =>
    refine ⟨h.1, h.2.1, fun w hw => ?_, fun j w hj => ?_⟩
    · rcases List.mem_or_eq_of_mem_set hw with h1 | h1
      · exact hc w h1
      · rw [h1]; exact hv
    · by_cases e : j = i
      · subst e
        rw [List.getElem?_set_self hlt] at hj
        cases hj
        exact hself
      · rw [List.getElem?_set_ne (Ne.symm e)] at hj
        exact key j w hj e
  · next hlt =>
    have hl : i = vs.length := by omega
    refine ⟨h.1, h.2.1, fun w hw => ?_, fun j w hj => ?_⟩
    · rcases List.mem_append.mp hw with h1 | h1
      · exact hc w h1
      · rw [List.mem_singleton.mp h1]; exact hv
    · by_cases e : j < vs.length
      · rw [List.getElem?_append_left e] at hj
        exact key j w hj (by omega)
      · rw [List.getElem?_append_right (by omega)] at hj
        have hz : j - vs.length < 1 := (List.getElem?_eq_some_iff.mp hj).1
        rw [show j - vs.length = 0 by omega] at hj
        cases hj
        rw [show j = i by omega]
        exact hself
theorem lv_args_mem : ∀ (vs : List Value) (k : Nat), (∀ v ∈ vs, v.category = 1) → ∀ (i : Nat) (v : Value), vs[i]? = some v → (k + i, v) ∈ lv_args k vs
  | [], k, _, i, v, h => by simp at h
  | w :: vs, k, hc, i, v, h => by
    have h1 : w.category = 1 := hc w List.mem_cons_self
    unfold lv_args
    rw [if_neg (by omega)]
    cases i with
    | zero =>
      simp at h
      subst h
      exact List.mem_cons_self
    | succ i =>
      rw [List.getElem?_cons_succ] at h
      have := lv_args_mem vs (k + 1) (fun v hv => hc v (List.mem_cons_of_mem _ hv)) i v h
      rw [show k + 1 + i = k + (i + 1) by omega] at this
      exact List.mem_cons_of_mem _ this
theorem LH.entry (vs : List Value) {n : Nat} (hc : ∀ v ∈ vs, v.category = 1) (h : (lg_sl vs).length ≤ n) : LH ((lg_sl vs ++ List.replicate (n - (lg_sl vs).length) Slot.unset).toArray) n vs := by
  have h1 := lv_entry vs h
  refine ⟨h1.1, h1.2.1, hc, fun i v hi => h1.2.2 (i, v) ?_⟩
  have := lv_args_mem vs 0 hc i v hi
  rw [Nat.zero_add] at this
  exact this
/-- the classes: 0 ReluBounds, 1 ReluBoundsModel -/
abbrev xCl : List vw_C := [(RX0, TX0, 14), (RX1, TX1, 5)]
def xR (k : Nat) : String := match k with | 0 => RX0 | _ => RX1
def xT (k : Nat) : u_T := match k with | 0 => TX0 | _ => TX1
def xN (k : Nat) : Nat := match k with | 0 => 14 | _ => 5
def xty (k : Nat) : Nat → FieldType := match k with | 0 => tyX0 | _ => tyX1
def xna (k : Nat) : Nat := match k with | 0 => 12 | _ => 1
def xln (k : Nat) (j : Nat) : Nat := match k with | 0 => (if j = 0 then 20 else if j < 8 then 6 else 16) | _ => 20
def xzb (k : Nat) (j : Nat) : Bool := match k with | 0 => j == 7 | _ => false
theorem xcl_at {k : Nat} (hk : k < 2) : xCl[k]? = some (xR k, xT k, xN k) := by
  match k, hk with
  | 0, _ => rfl
  | 1, _ => rfl
theorem xin {k : Nat} (hk : k < 2) : ∀ w ∈ u_ws (xR k) (xT k) (xN k), w ∈ lw_all := by
  match k, hk with
  | 0, _ => exact in_X0
  | 1, _ => exact in_X1
theorem xnm {k : Nat} (hk : k < 2) : ∀ a, a < xN k → ∀ b, b < xN k → a ≠ b → (xT k a).2.1 ≠ (xT k b).2.1 := by
  match k, hk with
  | 0, _ => exact nmX0
  | 1, _ => exact nmX1
theorem xty_ok {k : Nat} (hk : k < 2) : ∀ a, a < xN k → parseFieldDescriptor (xT k a).2.2.1 = some (xty k a) := by
  match k, hk with
  | 0, _ => exact tyX0_ok
  | 1, _ => exact tyX1_ok
theorem xln_lt (k j : Nat) : xln k j < 2 ^ 31 := by
  unfold xln
  split
  · split
    · decide
    · split <;> decide
  · decide
abbrev xU : Type := (Nat → Nat → Int) × List Int
abbrev tyL (dA : Bool → ClassId) : List (ClassId × FieldType) := [(dA false, .int), (dA true, .boolean)]
def xfs (k : Nat) (q : Nat → Nat) (sc : List Int) : List Value := (List.range (xna k)).map (fun j => Value.ref (q j)) ++ sc.map (fun a => vI a)
def xar (k : Nat) (dA : Bool → ClassId) (q : Nat → Nat) (G : Nat → Nat → Int) (j : Nat) : Nat × va_E := (q j, .inl (dA (xzb k j), xln k j, .inl (fun i => iI (G j i))))
/-- an object's world: itself and its arrays -/
def xw (k : Nat) (dA : Bool → ClassId) (h : Nat) (q : Nat → Nat) (u : xU) : va_W := (h, .inr (k, xfs k q u.2)) :: (List.range (xna k)).map (xar k dA q u.1)
def gu (G : Nat → Nat → Int) (j n : Nat) (v : Int) : Nat → Nat → Int := fun a b => if a = j ∧ b = n then v else G a b
theorem gu_s (G : Nat → Nat → Int) (j n : Nat) (v : Int) : gu G j n v j n = v := by simp [gu]
theorem gu_j {G : Nat → Nat → Int} {j n a b : Nat} {v : Int} (h : a ≠ j) : gu G j n v a b = G a b := by simp [gu, h]
theorem gu_n {G : Nat → Nat → Int} {j n a b : Nat} {v : Int} (h : b ≠ n) : gu G j n v a b = G a b := by simp [gu, h]
theorem gu_row {G : Nat → Nat → Int} {j n a : Nat} {v : Int} (h : a ≠ j) : gu G j n v a = G a := by funext b; exact gu_j h
theorem xw_ar {k : Nat} {dA : Bool → ClassId} {h : Nat} {q : Nat → Nat} {u : xU} {j : Nat} (hj : j < xna k) : (xw k dA h q u)[j + 1]? = some (xar k dA q u.1 j) := by
  unfold xw
  rw [List.getElem?_cons_succ, List.getElem?_map, List.getElem?_range hj]
  rfl
theorem xw_set_ar {k : Nat} {dA : Bool → ClassId} {h : Nat} {q : Nat → Nat} {G : Nat → Nat → Int} {sc : List Int} {j n : Nat} {v : Int} {f : Nat → Int32} (hj : j < xna k) (hf : f = upd (fun i => iI (G j i)) n (iI v)) :
    (xw k dA h q (G, sc)).set (j + 1) (q j, .inl (dA (xzb k j), xln k j, .inl f)) = xw k dA h q (gu G j n v, sc) := by
  subst hf
  apply List.ext_getElem?
  intro i
  cases i with
  | zero => rfl
  | succ i =>
    unfold xw
    rw [List.set_cons_succ, List.getElem?_cons_succ, List.getElem?_cons_succ]
    by_cases hi : i < xna k
    · by_cases e : i = j
      · subst e
        rw [List.getElem?_set_self (by simpa using hi), List.getElem?_map, List.getElem?_range hi]
        simp only [Option.map, xar]
        congr 6
        funext b
        simp only [upd, gu]
        by_cases hb : b = n <;> simp [hb]
      · rw [List.getElem?_set_ne (Ne.symm e), List.getElem?_map, List.getElem?_map, List.getElem?_range hi]
        simp only [Option.map, xar]
        rw [gu_row e]
    · rw [List.getElem?_eq_none (by simp; omega), List.getElem?_eq_none (by simp; omega)]
theorem xfs_a {k : Nat} {q : Nat → Nat} {sc : List Int} {j : Nat} (hj : j < xna k) : (xfs k q sc)[j]? = some (.ref (q j)) := by
  unfold xfs
  rw [List.getElem?_append_left (by simpa using hj), List.getElem?_map, List.getElem?_range hj]
  rfl
theorem xfs_s {k : Nat} {q : Nat → Nat} {sc : List Int} {t : Nat} {a : Int} (ht : sc[t]? = some a) : (xfs k q sc)[xna k + t]? = some (vI a) := by
  unfold xfs
  rw [List.getElem?_append_right (by simp)]
  simp [ht]
theorem xw_set_s {k : Nat} {dA : Bool → ClassId} {h : Nat} {q : Nat → Nat} {G : Nat → Nat → Int} {sc : List Int} {t : Nat} {v : Int} :
    (xw k dA h q (G, sc)).set 0 (h, .inr (k, (xfs k q sc).set (xna k + t) (vI v))) = xw k dA h q (G, sc.set t v) := by
  unfold xw
  rw [List.set_cons_zero]
  congr 4
  unfold xfs
  rw [List.set_append_right _ _ (by simp)]
  simp
section XL
variable {σ : Type}
def XG (p : Program) (l : Launch) (e : Env) (R : Room) (s : State) (m : MethodId) (args : Array Value) (below : List Frame) (meth : Method) (c : Code) (Q : State → Prop) (D : va_G) (A : Nat → Prop) (Wf : σ → va_W) (nL cells slots : Nat) (u : σ) (pc : Nat) (vs st : List Value) : Prop :=
  ∀ (H : Heap) (locs : List Loc) (ls : Array Slot), va_P D xCl (Wf u) H → va_D A (Wf u) → va_S A s.heap H locs → LH ls nL vs → W p l e R s m args below meth c H locs cells slots Q (F0 m pc ls st)
def XOK (l : Launch) (own : String) (cc : ByteArray) (nL : Nat) (R : Room) (D : va_G) (dA : Bool → ClassId) (Wf : σ → va_W) (X : σ → Nat → List Value → List Value → Prop) : Prop :=
  ∃ (p : Program) (e : Env) (s : State) (m : MethodId) (args : Array Value) (below : List Frame) (meth : Method) (c : Code) (Q : State → Prop) (A : Nat → Prop) (cells slots : Nat),
    p.tables.exec = Jvm.exec ∧ c.code = cc ∧ c.maxLocals = nL ∧ s.vm.findClass own = some m.cls ∧ (∀ w ∈ lw_all, w.before args s = true) ∧ va_K D xCl (tyL dA) s ∧ (∀ q, s.heap.size ≤ q → A q) ∧ (cells ≤ R.cells ∧ slots ≤ R.slots) ∧ X = XG p l e R s m args below meth c Q D A Wf nL cells slots
variable {l : Launch} {own : String} {cc : ByteArray} {nL : Nat} {R : Room} {D : va_G} {dA : Bool → ClassId} {Wf : σ → va_W} {X : σ → Nat → List Value → List Value → Prop} {u : σ} {pc : Nat} {vs st : List Value}
theorem x_iconst (hX : XOK l own cc nL R D dA Wf X) {n : Int} (hd : decode cc pc = .ok (.iconst n, 1)) (k : X u (pc + 1) vs (vI n :: st)) : X u pc vs st := by
  obtain ⟨p, e, s, m, args, below, meth, c, Q, A, cells, slots, h1, h2, h3, h4, h5, h6, h7, h8, rfl⟩ := hX
  intro H locs ls hP hD hS hl
  exact lv_iconst h1 h2 hd rfl (k H locs ls hP hD hS hl)
theorem x_bipush (hX : XOK l own cc nL R D dA Wf X) {n : Int} (hd : decode cc pc = .ok (.bipush n, 2)) (hv : (Int8.ofInt n).toInt32 = iI n) (k : X u (pc + 2) vs (vI n :: st)) : X u pc vs st := by
  obtain ⟨p, e, s, m, args, below, meth, c, Q, A, cells, slots, h1, h2, h3, h4, h5, h6, h7, h8, rfl⟩ := hX
  intro H locs ls hP hD hS hl
  exact lv_bipush h1 h2 hd hv (k H locs ls hP hD hS hl)
theorem x_sipush (hX : XOK l own cc nL R D dA Wf X) {n : Int} (hd : decode cc pc = .ok (.sipush n, 3)) (hv : (Int16.ofInt n).toInt32 = iI n) (k : X u (pc + 3) vs (vI n :: st)) : X u pc vs st := by
  obtain ⟨p, e, s, m, args, below, meth, c, Q, A, cells, slots, h1, h2, h3, h4, h5, h6, h7, h8, rfl⟩ := hX
  intro H locs ls hP hD hS hl
  exact lv_sipush h1 h2 hd hv (k H locs ls hP hD hS hl)
theorem x_ldc (hX : XOK l own cc nL R D dA Wf X) {idx : Nat} {v : Int32} (hw : Cond.constant own idx v ∈ lw_all) (hd : decode cc pc = .ok (.ldc idx, 2)) {n : Int} (hv : v = iI n) (k : X u (pc + 2) vs (vI n :: st)) : X u pc vs st := by
  obtain ⟨p, e, s, m, args, below, meth, c, Q, A, cells, slots, h1, h2, h3, h4, h5, h6, h7, h8, rfl⟩ := hX
  intro H locs ls hP hD hS hl
  subst hv
  exact lv_ldc h1 h2 h4 (h5 _ hw) hd (k H locs ls hP hD hS hl)
theorem x_iload_n (hX : XOK l own cc nL R D dA Wf X) {i : Fin 4} {x : Int32} (hd : decode cc pc = .ok (.iload_n i, 1)) (hv : vs[(i : Nat)]? = some (.int x)) (k : X u (pc + 1) vs (.int x :: st)) : X u pc vs st := by
  obtain ⟨p, e, s, m, args, below, meth, c, Q, A, cells, slots, h1, h2, h3, h4, h5, h6, h7, h8, rfl⟩ := hX
  intro H locs ls hP hD hS hl
  exact lv_iload_n h1 h2 hd rfl (hl.2.2.2 _ _ hv) (k H locs ls hP hD hS hl)
theorem x_iload (hX : XOK l own cc nL R D dA Wf X) {i : Nat} {x : Int32} (hd : decode cc pc = .ok (.iload i, 2)) (hv : vs[i]? = some (.int x)) (k : X u (pc + 2) vs (.int x :: st)) : X u pc vs st := by
  obtain ⟨p, e, s, m, args, below, meth, c, Q, A, cells, slots, h1, h2, h3, h4, h5, h6, h7, h8, rfl⟩ := hX
  intro H locs ls hP hD hS hl
  exact lv_iload h1 h2 hd (hl.2.2.2 _ _ hv) (k H locs ls hP hD hS hl)
theorem x_aload_n (hX : XOK l own cc nL R D dA Wf X) {i : Fin 4} {x : Nat} (hd : decode cc pc = .ok (.aload_n i, 1)) (hv : vs[(i : Nat)]? = some (.ref x)) (k : X u (pc + 1) vs (.ref x :: st)) : X u pc vs st := by
  obtain ⟨p, e, s, m, args, below, meth, c, Q, A, cells, slots, h1, h2, h3, h4, h5, h6, h7, h8, rfl⟩ := hX
  intro H locs ls hP hD hS hl
  exact lv_aload_n h1 h2 hd rfl (hl.2.2.2 _ _ hv) (k H locs ls hP hD hS hl)
theorem x_aload (hX : XOK l own cc nL R D dA Wf X) {i : Nat} {x : Nat} (hd : decode cc pc = .ok (.aload i, 2)) (hv : vs[i]? = some (.ref x)) (k : X u (pc + 2) vs (.ref x :: st)) : X u pc vs st := by
  obtain ⟨p, e, s, m, args, below, meth, c, Q, A, cells, slots, h1, h2, h3, h4, h5, h6, h7, h8, rfl⟩ := hX
  intro H locs ls hP hD hS hl
  exact lv_aload h1 h2 hd (hl.2.2.2 _ _ hv) (k H locs ls hP hD hS hl)
theorem x_istore_n (hX : XOK l own cc nL R D dA Wf X) {i : Fin 4} {x : Int32} {vs' : List Value} (hd : decode cc pc = .ok (.istore_n i, 1)) (hi : (i : Nat) ≤ vs.length ∧ (i : Nat) < nL) (hv : xset vs i (.int x) = vs') (k : X u (pc + 1) vs' st) : X u pc vs (.int x :: st) := by
  obtain ⟨p, e, s, m, args, below, meth, c, Q, A, cells, slots, h1, h2, h3, h4, h5, h6, h7, h8, rfl⟩ := hX
  intro H locs ls hP hD hS hl
  subst hv
  exact lv_istore_n h1 h2 hd rfl hl.has hi.2 rfl (fun ls2 hl2 => k H locs ls2 hP hD hS (LH.store rfl hl.2.2.1 hi.1 hl2))
theorem x_istore (hX : XOK l own cc nL R D dA Wf X) {i : Nat} {x : Int32} {vs' : List Value} (hd : decode cc pc = .ok (.istore i, 2)) (hi : i ≤ vs.length ∧ i < nL) (hv : xset vs i (.int x) = vs') (k : X u (pc + 2) vs' st) : X u pc vs (.int x :: st) := by
  obtain ⟨p, e, s, m, args, below, meth, c, Q, A, cells, slots, h1, h2, h3, h4, h5, h6, h7, h8, rfl⟩ := hX
  intro H locs ls hP hD hS hl
  subst hv
  exact lv_istore h1 h2 hd hl.has hi.2 rfl (fun ls2 hl2 => k H locs ls2 hP hD hS (LH.store rfl hl.2.2.1 hi.1 hl2))
theorem x_astore_n (hX : XOK l own cc nL R D dA Wf X) {i : Fin 4} {x : Nat} {vs' : List Value} (hd : decode cc pc = .ok (.astore_n i, 1)) (hi : (i : Nat) ≤ vs.length ∧ (i : Nat) < nL) (hv : xset vs i (.ref x) = vs') (k : X u (pc + 1) vs' st) : X u pc vs (.ref x :: st) := by
  obtain ⟨p, e, s, m, args, below, meth, c, Q, A, cells, slots, h1, h2, h3, h4, h5, h6, h7, h8, rfl⟩ := hX
  intro H locs ls hP hD hS hl
  subst hv
  exact lv_astore_n h1 h2 hd rfl hl.has hi.2 rfl (fun ls2 hl2 => k H locs ls2 hP hD hS (LH.store rfl hl.2.2.1 hi.1 hl2))
theorem x_astore (hX : XOK l own cc nL R D dA Wf X) {i : Nat} {x : Nat} {vs' : List Value} (hd : decode cc pc = .ok (.astore i, 2)) (hi : i ≤ vs.length ∧ i < nL) (hv : xset vs i (.ref x) = vs') (k : X u (pc + 2) vs' st) : X u pc vs (.ref x :: st) := by
  obtain ⟨p, e, s, m, args, below, meth, c, Q, A, cells, slots, h1, h2, h3, h4, h5, h6, h7, h8, rfl⟩ := hX
  intro H locs ls hP hD hS hl
  subst hv
  exact lv_astore h1 h2 hd hl.has hi.2 rfl (fun ls2 hl2 => k H locs ls2 hP hD hS (LH.store rfl hl.2.2.1 hi.1 hl2))
theorem x_iinc (hX : XOK l own cc nL R D dA Wf X) {i : Nat} {n a : Int} {vs' : List Value} (hd : decode cc pc = .ok (.iinc i n, 3)) (hv0 : vs[i]? = some (vI a)) (hi : i < nL) (hv : xset vs i (vI (a + n)) = vs') (k : X u (pc + 3) vs' st) : X u pc vs st := by
  obtain ⟨p, e, s, m, args, below, meth, c, Q, A, cells, slots, h1, h2, h3, h4, h5, h6, h7, h8, rfl⟩ := hX
  intro H locs ls hP hD hS hl
  subst hv
  have hlt : i < vs.length := (List.getElem?_eq_some_iff.mp hv0).1
  exact lv_iinc (k := i) (v := iI (a + n)) h1 h2 hd hl.has (by unfold lhL; rw [List.getElem?_mapIdx, hv0]; rfl) (by rw [← iI_add]; rfl) hi rfl (fun ls2 hl2 => k H locs ls2 hP hD hS (LH.store rfl hl.2.2.1 (by omega) hl2))
theorem x_iadd (hX : XOK l own cc nL R D dA Wf X) {a b : Int} (hd : decode cc pc = .ok (.iadd, 1)) (k : X u (pc + 1) vs (vI (a + b) :: st)) : X u pc vs (vI b :: vI a :: st) := by
  obtain ⟨p, e, s, m, args, below, meth, c, Q, A, cells, slots, h1, h2, h3, h4, h5, h6, h7, h8, rfl⟩ := hX
  intro H locs ls hP hD hS hl
  refine lv_iadd h1 h2 hd ?_
  rw [iI_add]
  exact k H locs ls hP hD hS hl
theorem x_isub (hX : XOK l own cc nL R D dA Wf X) {a b : Int} (hd : decode cc pc = .ok (.isub, 1)) (k : X u (pc + 1) vs (vI (a - b) :: st)) : X u pc vs (vI b :: vI a :: st) := by
  obtain ⟨p, e, s, m, args, below, meth, c, Q, A, cells, slots, h1, h2, h3, h4, h5, h6, h7, h8, rfl⟩ := hX
  intro H locs ls hP hD hS hl
  refine lv_isub h1 h2 hd ?_
  rw [iI_sub]
  exact k H locs ls hP hD hS hl
theorem x_imul (hX : XOK l own cc nL R D dA Wf X) {a b : Int} (hd : decode cc pc = .ok (.imul, 1)) (k : X u (pc + 1) vs (vI (a * b) :: st)) : X u pc vs (vI b :: vI a :: st) := by
  obtain ⟨p, e, s, m, args, below, meth, c, Q, A, cells, slots, h1, h2, h3, h4, h5, h6, h7, h8, rfl⟩ := hX
  intro H locs ls hP hD hS hl
  refine lv_imul h1 h2 hd ?_
  rw [iI_mul]
  exact k H locs ls hP hD hS hl
theorem x_ineg (hX : XOK l own cc nL R D dA Wf X) {a : Int} (hd : decode cc pc = .ok (.ineg, 1)) (k : X u (pc + 1) vs (vI (-a) :: st)) : X u pc vs (vI a :: st) := by
  obtain ⟨p, e, s, m, args, below, meth, c, Q, A, cells, slots, h1, h2, h3, h4, h5, h6, h7, h8, rfl⟩ := hX
  intro H locs ls hP hD hS hl
  refine lv_ineg h1 h2 hd ?_
  rw [iI_neg]
  exact k H locs ls hP hD hS hl
theorem x_iand (hX : XOK l own cc nL R D dA Wf X) {x y v : Int32} (hd : decode cc pc = .ok (.iand, 1)) (hv : x &&& y = v) (k : X u (pc + 1) vs (.int v :: st)) : X u pc vs (.int y :: .int x :: st) := by
  obtain ⟨p, e, s, m, args, below, meth, c, Q, A, cells, slots, h1, h2, h3, h4, h5, h6, h7, h8, rfl⟩ := hX
  intro H locs ls hP hD hS hl
  subst hv
  exact lv_iand h1 h2 hd (k H locs ls hP hD hS hl)
theorem x_ior (hX : XOK l own cc nL R D dA Wf X) {x y v : Int32} (hd : decode cc pc = .ok (.ior, 1)) (hv : x ||| y = v) (k : X u (pc + 1) vs (.int v :: st)) : X u pc vs (.int y :: .int x :: st) := by
  obtain ⟨p, e, s, m, args, below, meth, c, Q, A, cells, slots, h1, h2, h3, h4, h5, h6, h7, h8, rfl⟩ := hX
  intro H locs ls hP hD hS hl
  subst hv
  exact lv_ior h1 h2 hd (k H locs ls hP hD hS hl)
theorem x_ishl (hX : XOK l own cc nL R D dA Wf X) {x y v : Int32} (hd : decode cc pc = .ok (.ishl, 1)) (hv : x <<< (y &&& 31) = v) (k : X u (pc + 1) vs (.int v :: st)) : X u pc vs (.int y :: .int x :: st) := by
  obtain ⟨p, e, s, m, args, below, meth, c, Q, A, cells, slots, h1, h2, h3, h4, h5, h6, h7, h8, rfl⟩ := hX
  intro H locs ls hP hD hS hl
  subst hv
  exact lv_ishl h1 h2 hd (k H locs ls hP hD hS hl)
theorem x_ishr (hX : XOK l own cc nL R D dA Wf X) {x y v : Int32} (hd : decode cc pc = .ok (.ishr, 1)) (hv : x >>> (y &&& 31) = v) (k : X u (pc + 1) vs (.int v :: st)) : X u pc vs (.int y :: .int x :: st) := by
  obtain ⟨p, e, s, m, args, below, meth, c, Q, A, cells, slots, h1, h2, h3, h4, h5, h6, h7, h8, rfl⟩ := hX
  intro H locs ls hP hD hS hl
  subst hv
  exact lv_ishr h1 h2 hd (k H locs ls hP hD hS hl)
theorem x_iushr (hX : XOK l own cc nL R D dA Wf X) {x y v : Int32} (hd : decode cc pc = .ok (.iushr, 1)) (hv : (x.toUInt32 >>> (y.toUInt32 &&& Int32.toUInt32 31)).toInt32 = v) (k : X u (pc + 1) vs (.int v :: st)) : X u pc vs (.int y :: .int x :: st) := by
  obtain ⟨p, e, s, m, args, below, meth, c, Q, A, cells, slots, h1, h2, h3, h4, h5, h6, h7, h8, rfl⟩ := hX
  intro H locs ls hP hD hS hl
  exact lv_iushr h1 h2 hd hv (k H locs ls hP hD hS hl)
theorem x_iaddr (hX : XOK l own cc nL R D dA Wf X) {x y v : Int32} (hd : decode cc pc = .ok (.iadd, 1)) (hv : x + y = v) (k : X u (pc + 1) vs (.int v :: st)) : X u pc vs (.int y :: .int x :: st) := by
  obtain ⟨p, e, s, m, args, below, meth, c, Q, A, cells, slots, h1, h2, h3, h4, h5, h6, h7, h8, rfl⟩ := hX
  intro H locs ls hP hD hS hl
  subst hv
  exact lv_iadd h1 h2 hd (k H locs ls hP hD hS hl)
theorem x_idiv (hX : XOK l own cc nL R D dA Wf X) {x y v : Int32} (hd : decode cc pc = .ok (.idiv, 1)) (hne : ¬ y = 0) (hv : x / y = v) (k : X u (pc + 1) vs (.int v :: st)) : X u pc vs (.int y :: .int x :: st) := by
  obtain ⟨p, e, s, m, args, below, meth, c, Q, A, cells, slots, h1, h2, h3, h4, h5, h6, h7, h8, rfl⟩ := hX
  intro H locs ls hP hD hS hl
  subst hv
  exact lv_idiv h1 h2 hd hne (k H locs ls hP hD hS hl)
theorem x_irem (hX : XOK l own cc nL R D dA Wf X) {x y v : Int32} (hd : decode cc pc = .ok (.irem, 1)) (hne : ¬ y = 0) (hv : x - x / y * y = v) (k : X u (pc + 1) vs (.int v :: st)) : X u pc vs (.int y :: .int x :: st) := by
  obtain ⟨p, e, s, m, args, below, meth, c, Q, A, cells, slots, h1, h2, h3, h4, h5, h6, h7, h8, rfl⟩ := hX
  intro H locs ls hP hD hS hl
  subst hv
  exact lv_irem h1 h2 hd hne (k H locs ls hP hD hS hl)
theorem x_dup (hX : XOK l own cc nL R D dA Wf X) {v : Value} (hd : decode cc pc = .ok (.dup, 1)) (hv : v.category = 1) (k : X u (pc + 1) vs (v :: v :: st)) : X u pc vs (v :: st) := by
  obtain ⟨p, e, s, m, args, below, meth, c, Q, A, cells, slots, h1, h2, h3, h4, h5, h6, h7, h8, rfl⟩ := hX
  intro H locs ls hP hD hS hl
  exact lv_dup h1 h2 hd hv (k H locs ls hP hD hS hl)
theorem x_dup2 (hX : XOK l own cc nL R D dA Wf X) {v w : Value} (hd : decode cc pc = .ok (.dup2, 1)) (hv : v.category = 1) (hw : w.category = 1) (k : X u (pc + 1) vs (v :: w :: v :: w :: st)) : X u pc vs (v :: w :: st) := by
  obtain ⟨p, e, s, m, args, below, meth, c, Q, A, cells, slots, h1, h2, h3, h4, h5, h6, h7, h8, rfl⟩ := hX
  intro H locs ls hP hD hS hl
  exact lv_dup2_11 h1 h2 hd hv hw (k H locs ls hP hD hS hl)
theorem x_goto (hX : XOK l own cc nL R D dA Wf X) {off : Int} {tgt : Nat} (hd : decode cc pc = .ok (.goto off, 3)) (ht : (pc : Int) + off = (tgt : Int)) (k : X u tgt vs st) : X u pc vs st := by
  obtain ⟨p, e, s, m, args, below, meth, c, Q, A, cells, slots, h1, h2, h3, h4, h5, h6, h7, h8, rfl⟩ := hX
  intro H locs ls hP hD hS hl
  exact lv_goto h1 h2 hd ht (k H locs ls hP hD hS hl)
theorem x_icmp_eq (hX : XOK l own cc nL R D dA Wf X) {a b : Int} {off : Int} {tgt : Nat} (hd : decode cc pc = .ok (.if_icmp .eq off, 3)) (ht : (pc : Int) + off = (tgt : Int)) (ha : inR a) (hb : inR b) (kt : a = b → X u tgt vs st) (kf : a ≠ b → X u (pc + 3) vs st) : X u pc vs (vI b :: vI a :: st) := by
  obtain ⟨p, e, s, m, args, below, meth, c, Q, A, cells, slots, h1, h2, h3, h4, h5, h6, h7, h8, rfl⟩ := hX
  intro H locs ls hP hD hS hl
  exact lv_icmp_eq h1 h2 hd ht (fun z => kt ((iI_eq ha hb).mp z) H locs ls hP hD hS hl) (fun z => kf (fun y => z ((iI_eq ha hb).mpr y)) H locs ls hP hD hS hl)
theorem x_if_eq (hX : XOK l own cc nL R D dA Wf X) {a : Int} {off : Int} {tgt : Nat} (hd : decode cc pc = .ok (.ifCond .eq off, 3)) (ht : (pc : Int) + off = (tgt : Int)) (ha : inR a) (kt : a = 0 → X u tgt vs st) (kf : a ≠ 0 → X u (pc + 3) vs st) : X u pc vs (vI a :: st) := by
  obtain ⟨p, e, s, m, args, below, meth, c, Q, A, cells, slots, h1, h2, h3, h4, h5, h6, h7, h8, rfl⟩ := hX
  intro H locs ls hP hD hS hl
  exact lv_if_eq h1 h2 hd ht (fun z => kt ((iI_eq ha r0).mp (by rw [iI_0]; exact z)) H locs ls hP hD hS hl) (fun z => kf (fun y => z (by rw [← iI_0]; exact (iI_eq ha r0).mpr y)) H locs ls hP hD hS hl)
theorem x_icmp_ne (hX : XOK l own cc nL R D dA Wf X) {a b : Int} {off : Int} {tgt : Nat} (hd : decode cc pc = .ok (.if_icmp .ne off, 3)) (ht : (pc : Int) + off = (tgt : Int)) (ha : inR a) (hb : inR b) (kt : a ≠ b → X u tgt vs st) (kf : a = b → X u (pc + 3) vs st) : X u pc vs (vI b :: vI a :: st) := by
  obtain ⟨p, e, s, m, args, below, meth, c, Q, A, cells, slots, h1, h2, h3, h4, h5, h6, h7, h8, rfl⟩ := hX
  intro H locs ls hP hD hS hl
  exact lv_icmp_ne h1 h2 hd ht (fun z => kt (fun y => z ((iI_eq ha hb).mpr y)) H locs ls hP hD hS hl) (fun z => kf ((iI_eq ha hb).mp z) H locs ls hP hD hS hl)
theorem x_if_ne (hX : XOK l own cc nL R D dA Wf X) {a : Int} {off : Int} {tgt : Nat} (hd : decode cc pc = .ok (.ifCond .ne off, 3)) (ht : (pc : Int) + off = (tgt : Int)) (ha : inR a) (kt : a ≠ 0 → X u tgt vs st) (kf : a = 0 → X u (pc + 3) vs st) : X u pc vs (vI a :: st) := by
  obtain ⟨p, e, s, m, args, below, meth, c, Q, A, cells, slots, h1, h2, h3, h4, h5, h6, h7, h8, rfl⟩ := hX
  intro H locs ls hP hD hS hl
  exact lv_if_ne h1 h2 hd ht (fun z => kt (fun y => z (by rw [← iI_0]; exact (iI_eq ha r0).mpr y)) H locs ls hP hD hS hl) (fun z => kf ((iI_eq ha r0).mp (by rw [iI_0]; exact z)) H locs ls hP hD hS hl)
theorem x_icmp_lt (hX : XOK l own cc nL R D dA Wf X) {a b : Int} {off : Int} {tgt : Nat} (hd : decode cc pc = .ok (.if_icmp .lt off, 3)) (ht : (pc : Int) + off = (tgt : Int)) (ha : inR a) (hb : inR b) (kt : a < b → X u tgt vs st) (kf : b ≤ a → X u (pc + 3) vs st) : X u pc vs (vI b :: vI a :: st) := by
  obtain ⟨p, e, s, m, args, below, meth, c, Q, A, cells, slots, h1, h2, h3, h4, h5, h6, h7, h8, rfl⟩ := hX
  intro H locs ls hP hD hS hl
  exact lv_icmp_lt h1 h2 hd ht (fun z => kt ((iI_lt ha hb).mp z) H locs ls hP hD hS hl) (fun z => kf (by have y : ¬ (a < b) := fun w => z ((iI_lt ha hb).mpr w); omega) H locs ls hP hD hS hl)
theorem x_if_lt (hX : XOK l own cc nL R D dA Wf X) {a : Int} {off : Int} {tgt : Nat} (hd : decode cc pc = .ok (.ifCond .lt off, 3)) (ht : (pc : Int) + off = (tgt : Int)) (ha : inR a) (kt : a < 0 → X u tgt vs st) (kf : 0 ≤ a → X u (pc + 3) vs st) : X u pc vs (vI a :: st) := by
  obtain ⟨p, e, s, m, args, below, meth, c, Q, A, cells, slots, h1, h2, h3, h4, h5, h6, h7, h8, rfl⟩ := hX
  intro H locs ls hP hD hS hl
  exact lv_if_lt h1 h2 hd ht (fun z => kt ((iI_lt ha r0).mp (by rw [iI_0]; exact z)) H locs ls hP hD hS hl) (fun z => kf (by have y : ¬ (a < 0) := fun w => z (by rw [← iI_0]; exact (iI_lt ha r0).mpr w); omega) H locs ls hP hD hS hl)
theorem x_icmp_ge (hX : XOK l own cc nL R D dA Wf X) {a b : Int} {off : Int} {tgt : Nat} (hd : decode cc pc = .ok (.if_icmp .ge off, 3)) (ht : (pc : Int) + off = (tgt : Int)) (ha : inR a) (hb : inR b) (kt : b ≤ a → X u tgt vs st) (kf : a < b → X u (pc + 3) vs st) : X u pc vs (vI b :: vI a :: st) := by
  obtain ⟨p, e, s, m, args, below, meth, c, Q, A, cells, slots, h1, h2, h3, h4, h5, h6, h7, h8, rfl⟩ := hX
  intro H locs ls hP hD hS hl
  exact lv_icmp_ge h1 h2 hd ht (fun z => kt ((iI_le hb ha).mp z) H locs ls hP hD hS hl) (fun z => kf (by have y : ¬ (b ≤ a) := fun w => z ((iI_le hb ha).mpr w); omega) H locs ls hP hD hS hl)
theorem x_if_ge (hX : XOK l own cc nL R D dA Wf X) {a : Int} {off : Int} {tgt : Nat} (hd : decode cc pc = .ok (.ifCond .ge off, 3)) (ht : (pc : Int) + off = (tgt : Int)) (ha : inR a) (kt : 0 ≤ a → X u tgt vs st) (kf : a < 0 → X u (pc + 3) vs st) : X u pc vs (vI a :: st) := by
  obtain ⟨p, e, s, m, args, below, meth, c, Q, A, cells, slots, h1, h2, h3, h4, h5, h6, h7, h8, rfl⟩ := hX
  intro H locs ls hP hD hS hl
  exact lv_if_ge h1 h2 hd ht (fun z => kt ((iI_le r0 ha).mp (by rw [iI_0]; exact z)) H locs ls hP hD hS hl) (fun z => kf (by have y : ¬ (0 ≤ a) := fun w => z (by rw [← iI_0]; exact (iI_le r0 ha).mpr w); omega) H locs ls hP hD hS hl)
theorem x_icmp_gt (hX : XOK l own cc nL R D dA Wf X) {a b : Int} {off : Int} {tgt : Nat} (hd : decode cc pc = .ok (.if_icmp .gt off, 3)) (ht : (pc : Int) + off = (tgt : Int)) (ha : inR a) (hb : inR b) (kt : b < a → X u tgt vs st) (kf : a ≤ b → X u (pc + 3) vs st) : X u pc vs (vI b :: vI a :: st) := by
  obtain ⟨p, e, s, m, args, below, meth, c, Q, A, cells, slots, h1, h2, h3, h4, h5, h6, h7, h8, rfl⟩ := hX
  intro H locs ls hP hD hS hl
  exact lv_icmp_gt h1 h2 hd ht (fun z => kt ((iI_lt hb ha).mp z) H locs ls hP hD hS hl) (fun z => kf (by have y : ¬ (b < a) := fun w => z ((iI_lt hb ha).mpr w); omega) H locs ls hP hD hS hl)
theorem x_if_gt (hX : XOK l own cc nL R D dA Wf X) {a : Int} {off : Int} {tgt : Nat} (hd : decode cc pc = .ok (.ifCond .gt off, 3)) (ht : (pc : Int) + off = (tgt : Int)) (ha : inR a) (kt : 0 < a → X u tgt vs st) (kf : a ≤ 0 → X u (pc + 3) vs st) : X u pc vs (vI a :: st) := by
  obtain ⟨p, e, s, m, args, below, meth, c, Q, A, cells, slots, h1, h2, h3, h4, h5, h6, h7, h8, rfl⟩ := hX
  intro H locs ls hP hD hS hl
  exact lv_if_gt h1 h2 hd ht (fun z => kt ((iI_lt r0 ha).mp (by rw [iI_0]; exact z)) H locs ls hP hD hS hl) (fun z => kf (by have y : ¬ (0 < a) := fun w => z (by rw [← iI_0]; exact (iI_lt r0 ha).mpr w); omega) H locs ls hP hD hS hl)
theorem x_icmp_le (hX : XOK l own cc nL R D dA Wf X) {a b : Int} {off : Int} {tgt : Nat} (hd : decode cc pc = .ok (.if_icmp .le off, 3)) (ht : (pc : Int) + off = (tgt : Int)) (ha : inR a) (hb : inR b) (kt : a ≤ b → X u tgt vs st) (kf : b < a → X u (pc + 3) vs st) : X u pc vs (vI b :: vI a :: st) := by
  obtain ⟨p, e, s, m, args, below, meth, c, Q, A, cells, slots, h1, h2, h3, h4, h5, h6, h7, h8, rfl⟩ := hX
  intro H locs ls hP hD hS hl
  exact lv_icmp_le h1 h2 hd ht (fun z => kt ((iI_le ha hb).mp z) H locs ls hP hD hS hl) (fun z => kf (by have y : ¬ (a ≤ b) := fun w => z ((iI_le ha hb).mpr w); omega) H locs ls hP hD hS hl)
theorem x_if_le (hX : XOK l own cc nL R D dA Wf X) {a : Int} {off : Int} {tgt : Nat} (hd : decode cc pc = .ok (.ifCond .le off, 3)) (ht : (pc : Int) + off = (tgt : Int)) (ha : inR a) (kt : a ≤ 0 → X u tgt vs st) (kf : 0 < a → X u (pc + 3) vs st) : X u pc vs (vI a :: st) := by
  obtain ⟨p, e, s, m, args, below, meth, c, Q, A, cells, slots, h1, h2, h3, h4, h5, h6, h7, h8, rfl⟩ := hX
  intro H locs ls hP hD hS hl
  exact lv_if_le h1 h2 hd ht (fun z => kt ((iI_le ha r0).mp (by rw [iI_0]; exact z)) H locs ls hP hD hS hl) (fun z => kf (by have y : ¬ (a ≤ 0) := fun w => z (by rw [← iI_0]; exact (iI_le ha r0).mpr w); omega) H locs ls hP hD hS hl)
theorem x_ifr_eq (hX : XOK l own cc nL R D dA Wf X) {x : Int32} {off : Int} {tgt : Nat} (hd : decode cc pc = .ok (.ifCond .eq off, 3)) (ht : (pc : Int) + off = (tgt : Int)) (kt : x = 0 → X u tgt vs st) (kf : x ≠ 0 → X u (pc + 3) vs st) : X u pc vs (.int x :: st) := by
  obtain ⟨p, e, s, m, args, below, meth, c, Q, A, cells, slots, h1, h2, h3, h4, h5, h6, h7, h8, rfl⟩ := hX
  intro H locs ls hP hD hS hl
  exact lv_if_eq h1 h2 hd ht (fun z => kt z H locs ls hP hD hS hl) (fun z => kf z H locs ls hP hD hS hl)
theorem x_top {a : Int} (k : ∀ b, b = a → X u pc vs (vI b :: st)) : X u pc vs (vI a :: st) := k a rfl
theorem x_take (hX : XOK l own cc nL R D dA Wf X) (n : Nat) {vs' : List Value} (hv : vs.take n = vs') (k : X u pc vs' st) : X u pc vs st := by
  obtain ⟨p, e, s, m, args, below, meth, c, Q, A, cells, slots, h1, h2, h3, h4, h5, h6, h7, h8, rfl⟩ := hX
  intro H locs ls hP hD hS hl
  subst hv
  exact k H locs ls hP hD hS (hl.take n)
end XL
section XO
variable {l : Launch} {cc : ByteArray} {nL : Nat} {R : Room} {D : va_G} {dA : Bool → ClassId} {k h : Nat} {q : Nat → Nat} {X : xU → Nat → List Value → List Value → Prop} {G : Nat → Nat → Int} {sc : List Int} {pc : Nat} {vs st : List Value}
theorem x_getA (hX : XOK l (xR k) cc nL R D dA (xw k dA h q) X) (hk : k < 2) (j : Nat) {idx : Nat} (hj : j < xna k ∧ j < xN k) (hw : Cond.fieldLink (xR k) idx (xT k j).1 (xT k j).2.1 (xT k j).2.2.1 ∈ lw_all) (hd : decode cc pc = .ok (.getfield idx, 3)) (kk : X (G, sc) (pc + 3) vs (.ref (q j) :: st)) : X (G, sc) pc vs (.ref h :: st) := by
  obtain ⟨p, e, s, m, args, below, meth, c, Q, A, cells, slots, h1, h2, h3, h4, h5, h6, h7, h8, rfl⟩ := hX
  intro H locs ls hP hD hS hl
  exact va_get (ci := k) (v := .ref (q j)) (C := xR k) (T := xT k) (N := xN k) h1 h2 h5 (xin hk) h4 h6 hP 0 rfl (xcl_at hk) j hj.2 (h5 _ hw) (fun _ h9 => h9) (xfs_a hj.1) hd (kk H locs ls hP hD hS hl)
theorem x_getS (hX : XOK l (xR k) cc nL R D dA (xw k dA h q) X) (hk : k < 2) (t : Nat) {idx : Nat} {a : Int} (ht : sc[t]? = some a) (hj : xna k + t < xN k) (hw : Cond.fieldLink (xR k) idx (xT k (xna k + t)).1 (xT k (xna k + t)).2.1 (xT k (xna k + t)).2.2.1 ∈ lw_all) (hd : decode cc pc = .ok (.getfield idx, 3)) (kk : X (G, sc) (pc + 3) vs (vI a :: st)) : X (G, sc) pc vs (.ref h :: st) := by
  obtain ⟨p, e, s, m, args, below, meth, c, Q, A, cells, slots, h1, h2, h3, h4, h5, h6, h7, h8, rfl⟩ := hX
  intro H locs ls hP hD hS hl
  exact va_get (ci := k) (v := vI a) (C := xR k) (T := xT k) (N := xN k) h1 h2 h5 (xin hk) h4 h6 hP 0 rfl (xcl_at hk) (xna k + t) hj (h5 _ hw) (fun _ h9 => h9) (xfs_s ht) hd (kk H locs ls hP hD hS hl)
theorem x_putS (hX : XOK l (xR k) cc nL R D dA (xw k dA h q) X) (hk : k < 2) (t : Nat) {idx : Nat} {a b : Int} {sc' : List Int} (ht : sc[t]? = some b) (hj : xna k + t < xN k) (hf : (xT k (xna k + t)).2.2.2 = false) (hty : parseFieldDescriptor (xT k (xna k + t)).2.2.1 = some .int) (hw : Cond.fieldLink (xR k) idx (xT k (xna k + t)).1 (xT k (xna k + t)).2.1 (xT k (xna k + t)).2.2.1 ∈ lw_all) (hd : decode cc pc = .ok (.putfield idx, 3)) (hs : sc.set t a = sc') (kk : X (G, sc') (pc + 3) vs st) : X (G, sc) pc vs (vI a :: .ref h :: st) := by
  obtain ⟨p, e, s, m, args, below, meth, c, Q, A, cells, slots, h1, h2, h3, h4, h5, h6, h7, h8, rfl⟩ := hX
  intro H locs ls hP hD hS hl
  subst hs
  refine va_put (ci := k) (v := vI a) (ty := .int) (C := xR k) (T := xT k) (N := xN k) h1 h2 h5 (xin hk) (xty k) (xty_ok hk) (xnm hk) h4 h6 hP hD hS 0 rfl (xcl_at hk) (xna k + t) hj (h5 _ hw) (fun _ h9 => h9) hf hty rfl rfl (List.getElem?_eq_some_iff.mp (xfs_s ht)).1 hd (fun H2 locs2 hP2 hD2 hS2 => ?_)
  rw [xw_set_s] at hP2 hD2
  exact kk H2 locs2 ls hP2 hD2 hS2 hl
theorem x_iald (hX : XOK l (xR k) cc nL R D dA (xw k dA h q) X) (j n : Nat) {i v : Int} (hj : j < xna k ∧ xzb k j = false) (hi : i = (n : Int)) (hn : n < xln k j) (hv : G j n = v) (hd : decode cc pc = .ok (.iaload, 1)) (kk : X (G, sc) (pc + 1) vs (vI v :: st)) : X (G, sc) pc vs (vI i :: .ref (q j) :: st) := by
  obtain ⟨p, e, s, m, args, below, meth, c, Q, A, cells, slots, h1, h2, h3, h4, h5, h6, h7, h8, rfl⟩ := hX
  intro H locs ls hP hD hS hl
  subst hi hv
  refine va_iald h1 h2 h6 hP (j + 1) 0 (xw_ar hj.1) (by rw [hj.2]; rfl) (iI_in hn (xln_lt k j)) hd ?_
  rw [iI_cl (Nat.lt_trans hn (xln_lt k j))]
  exact kk H locs ls hP hD hS hl
theorem x_zald (hX : XOK l (xR k) cc nL R D dA (xw k dA h q) X) (j n : Nat) {i v : Int} (hj : j < xna k ∧ xzb k j = true) (hi : i = (n : Int)) (hn : n < xln k j) (hv : G j n = v) (hd : decode cc pc = .ok (.baload, 1)) (kk : X (G, sc) (pc + 1) vs (vI v :: st)) : X (G, sc) pc vs (vI i :: .ref (q j) :: st) := by
  obtain ⟨p, e, s, m, args, below, meth, c, Q, A, cells, slots, h1, h2, h3, h4, h5, h6, h7, h8, rfl⟩ := hX
  intro H locs ls hP hD hS hl
  subst hi hv
  refine va_zald h1 h2 h6 hP (j + 1) 1 (xw_ar hj.1) (by rw [hj.2]; rfl) (iI_in hn (xln_lt k j)) hd ?_
  rw [iI_cl (Nat.lt_trans hn (xln_lt k j))]
  exact kk H locs ls hP hD hS hl
theorem x_iast (hX : XOK l (xR k) cc nL R D dA (xw k dA h q) X) (j n : Nat) {i v : Int} (hj : j < xna k ∧ xzb k j = false) (hi : i = (n : Int)) (hn : n < xln k j) (hd : decode cc pc = .ok (.iastore, 1)) (kk : X (gu G j n v, sc) (pc + 1) vs st) : X (G, sc) pc vs (vI v :: vI i :: .ref (q j) :: st) := by
  obtain ⟨p, e, s, m, args, below, meth, c, Q, A, cells, slots, h1, h2, h3, h4, h5, h6, h7, h8, rfl⟩ := hX
  intro H locs ls hP hD hS hl
  subst hi
  refine va_iast h1 h2 h6 hP hD hS (j + 1) 0 (xw_ar hj.1) (by rw [hj.2]; rfl) (iI_in hn (xln_lt k j)) hd (fun H2 locs2 hP2 hD2 hS2 => ?_)
  rw [iI_cl (Nat.lt_trans hn (xln_lt k j)), xw_set_ar hj.1 rfl] at hP2 hD2
  exact kk H2 locs2 ls hP2 hD2 hS2 hl
theorem x_zast (hX : XOK l (xR k) cc nL R D dA (xw k dA h q) X) (j n : Nat) {i v : Int} (hj : j < xna k ∧ xzb k j = true) (hi : i = (n : Int)) (hn : n < xln k j) (hv : v = 0 ∨ v = 1) (hd : decode cc pc = .ok (.bastore, 1)) (kk : X (gu G j n v, sc) (pc + 1) vs st) : X (G, sc) pc vs (vI v :: vI i :: .ref (q j) :: st) := by
  obtain ⟨p, e, s, m, args, below, meth, c, Q, A, cells, slots, h1, h2, h3, h4, h5, h6, h7, h8, rfl⟩ := hX
  intro H locs ls hP hD hS hl
  subst hi
  have hb : vp_nar .boolean (iI v) = iI v := by rcases hv with rfl | rfl <;> decide +kernel
  refine va_zast h1 h2 h6 hP hD hS (j + 1) 1 (xw_ar hj.1) (by rw [hj.2]; rfl) (iI_in hn (xln_lt k j)) hd (fun H2 locs2 hP2 hD2 hS2 => ?_)
  rw [hb, iI_cl (Nat.lt_trans hn (xln_lt k j)), xw_set_ar hj.1 rfl] at hP2 hD2
  exact kk H2 locs2 ls hP2 hD2 hS2 hl
end XO
def rmL (n : Nat) : Room := { frames := n, cells := 0, slots := 0, locals := 30 * n }
section XMs
variable {σ : Type}
def xPc (D : va_G) (dA : Bool → ClassId) (Wf : σ → va_W) (vs : List Value) (u : σ) (sz : Nat) : Array Value → State → Prop := va_Pc vs (fun U => U.heap.size = sz ∧ va_P D xCl (Wf u) U.heap ∧ va_K D xCl (tyL dA) U ∧ va_D (fun _ => True) (Wf u))
def xB (D : va_G) (dA : Bool → ClassId) (Wf : σ → va_W) (u0 : σ) (sz : Nat) (u : σ) (t : State) : Prop := va_P D xCl (Wf u) t.heap ∧ va_K D xCl (tyL dA) t ∧ va_D (va_A (Wf u0) sz) (Wf u)
/-- a contract with an int (or boolean) answer -/
def XM (l : Launch) (y : MethodName) (cc : ByteArray) (nL : Nat) (ret : Option FieldType) (lvl : Nat) (D : va_G) (dA : Bool → ClassId) (Wf : σ → va_W) (vs : List Value) (u : σ) (post : Int → σ → Prop) : Prop :=
  ∀ sz : Nat, Met l y (ws_ y cc nL ret) (rmL lvl) (xPc D dA Wf vs u sz) (va_Qi (fun r u' => ∃ a, r = iI a ∧ post a u') (xB D dA Wf u sz) (va_A (Wf u) sz)) 0 0 (va_A (Wf u) sz)
/-- a contract without answer -/
def XV (l : Launch) (y : MethodName) (cc : ByteArray) (nL : Nat) (lvl : Nat) (D : va_G) (dA : Bool → ClassId) (Wf : σ → va_W) (vs : List Value) (u : σ) (post : σ → Prop) : Prop :=
  ∀ sz : Nat, Met l y (ws_ y cc nL none) (rmL lvl) (xPc D dA Wf vs u sz) (va_Qv post (xB D dA Wf u sz) (va_A (Wf u) sz)) 0 0 (va_A (Wf u) sz)
variable {l : Launch} {y : MethodName} {cc : ByteArray} {nL lvl : Nat} {D : va_G} {dA : Bool → ClassId} {Wf : σ → va_W} {vs : List Value} {u : σ}
theorem XM.of {post : Int → σ → Prop} (hy : plainName y.cls = true) (hc : ∀ v ∈ vs, v.category = 1) (hn : (lg_sl vs).length ≤ nL)
    (body : ∀ X : σ → Nat → List Value → List Value → Prop, XOK l y.cls cc nL (rmL lvl) D dA Wf X → (∀ (a : Int) (u' : σ) (pc : Nat) (ws : List Value), decode cc pc = .ok (.ireturn, 1) → post a u' → X u' pc ws [vI a]) → X u 0 vs []) : XM l y cc nL (some .int) lvl D dA Wf vs u post := by
  intro sz
  refine Met.ofW (cc := cc) (maxL := nL) (ret := some .int) hy rfl ?_
  intro p e s m args below meth c s₁ B hml hv
  obtain ⟨rfl, rfl, hP, hK, hD0⟩ := hv
  have hts := atoms_spec (ws := ws_ y cc nL (some .int)) B.pre
  have hts : ∀ w ∈ lw_all, w.before _ s = true := fun w h => hts w (List.mem_cons_of_mem _ h)
  have hown : s.vm.findClass y.cls = some m.cls := findClass_of_methodNamed B.named
  have hlocks := B.notSynchronized
  rw [lg_entry_eq]
  refine body (XG p l e (rmL lvl) s m vs.toArray below meth c _ D (va_A (Wf u) s.heap.size) Wf nL 0 0) ⟨p, e, s, m, _, below, meth, c, _, _, 0, 0, B.exec, B.bytes, hml, hown, hts, hK, fun q h => Or.inr h, ⟨Nat.le_refl _, Nat.le_refl _⟩, rfl⟩ ?_ s.heap [] _ hP hD0.self va_S.rf (LH.entry vs hc hn)
  intro a u' pc ws hd hpost H locs ls hP hD hS hl
  exact W.iret (v := iI a) B.exec B.bytes B.returns (fun t ht hW => ⟨⟨iI a, u', rfl, ⟨a, rfl, hpost⟩, by rw [ht]; exact hP, va_K.moved hW.alike hK, hD⟩, hS.F ht⟩) hS.2.2 hd
theorem XM.ofZ {post : Int → σ → Prop} (hy : plainName y.cls = true) (hc : ∀ v ∈ vs, v.category = 1) (hn : (lg_sl vs).length ≤ nL)
    (body : ∀ X : σ → Nat → List Value → List Value → Prop, XOK l y.cls cc nL (rmL lvl) D dA Wf X → (∀ (a : Int) (u' : σ) (pc : Nat) (ws : List Value), decode cc pc = .ok (.ireturn, 1) → (a = 0 ∨ a = 1) → post a u' → X u' pc ws [vI a]) → X u 0 vs []) : XM l y cc nL (some .boolean) lvl D dA Wf vs u post := by
  intro sz
  refine Met.ofW (cc := cc) (maxL := nL) (ret := some .boolean) hy rfl ?_
  intro p e s m args below meth c s₁ B hml hv
  obtain ⟨rfl, rfl, hP, hK, hD0⟩ := hv
  have hts := atoms_spec (ws := ws_ y cc nL (some .boolean)) B.pre
  have hts : ∀ w ∈ lw_all, w.before _ s = true := fun w h => hts w (List.mem_cons_of_mem _ h)
  have hown : s.vm.findClass y.cls = some m.cls := findClass_of_methodNamed B.named
  have hlocks := B.notSynchronized
  rw [lg_entry_eq]
  refine body (XG p l e (rmL lvl) s m vs.toArray below meth c _ D (va_A (Wf u) s.heap.size) Wf nL 0 0) ⟨p, e, s, m, _, below, meth, c, _, _, 0, 0, B.exec, B.bytes, hml, hown, hts, hK, fun q h => Or.inr h, ⟨Nat.le_refl _, Nat.le_refl _⟩, rfl⟩ ?_ s.heap [] _ hP hD0.self va_S.rf (LH.entry vs hc hn)
  intro a u' pc ws hd ha hpost H locs ls hP hD hS hl
  exact W.zret (v := iI a) B.exec B.bytes B.returns (by rcases ha with rfl | rfl <;> decide +kernel) (fun t ht hW => ⟨⟨iI a, u', rfl, ⟨a, rfl, hpost⟩, by rw [ht]; exact hP, va_K.moved hW.alike hK, hD⟩, hS.F ht⟩) hS.2.2 hd
theorem XV.of {post : σ → Prop} (hy : plainName y.cls = true) (hc : ∀ v ∈ vs, v.category = 1) (hn : (lg_sl vs).length ≤ nL)
    (body : ∀ X : σ → Nat → List Value → List Value → Prop, XOK l y.cls cc nL (rmL lvl) D dA Wf X → (∀ (u' : σ) (pc : Nat) (ws : List Value), decode cc pc = .ok (.return_, 1) → post u' → X u' pc ws []) → X u 0 vs []) : XV l y cc nL lvl D dA Wf vs u post := by
  intro sz
  refine Met.ofW (cc := cc) (maxL := nL) (ret := none) hy rfl ?_
  intro p e s m args below meth c s₁ B hml hv
  obtain ⟨rfl, rfl, hP, hK, hD0⟩ := hv
  have hts := atoms_spec (ws := ws_ y cc nL none) B.pre
  have hts : ∀ w ∈ lw_all, w.before _ s = true := fun w h => hts w (List.mem_cons_of_mem _ h)
  have hown : s.vm.findClass y.cls = some m.cls := findClass_of_methodNamed B.named
  have hlocks := B.notSynchronized
  rw [lg_entry_eq]
  refine body (XG p l e (rmL lvl) s m vs.toArray below meth c _ D (va_A (Wf u) s.heap.size) Wf nL 0 0) ⟨p, e, s, m, _, below, meth, c, _, _, 0, 0, B.exec, B.bytes, hml, hown, hts, hK, fun q h => Or.inr h, ⟨Nat.le_refl _, Nat.le_refl _⟩, rfl⟩ ?_ s.heap [] _ hP hD0.self va_S.rf (LH.entry vs hc hn)
  intro u' pc ws hd hpost H locs ls hP hD hS hl
  exact W.vret B.exec B.bytes B.returns (fun t ht hW => ⟨⟨u', rfl, hpost, by rw [ht]; exact hP, va_K.moved hW.alike hK, hD⟩, hS.F ht⟩) hS.2.2 hd
theorem xPc_blind {sz : Nat} : FrameBlind (xPc D dA Wf vs u sz) := by
  intro a U g mk hq
  obtain ⟨q0, q1, qP, qK, qD⟩ := hq
  exact ⟨q0, q1, qP, va_K.moved (u := U) (U := U.calling g mk a) (Vm.Alike.refl U.vm) qK, qD⟩
end XMs
/-- a call's descriptor: n parameters, no handle -/
abbrev dsc (C : String) (y : MethodName) (n : Nat) : Prop := y.cls = C ∧ y.cls ≠ "java/lang/invoke/MethodHandle" ∧ y.cls ≠ "java/lang/invoke/VarHandle" ∧ (parseMethodDescriptor y.desc).map (fun d => d.parameters.length) = some n
section XCall
variable {l : Launch} {cc : ByteArray} {nL : Nat} {R : Room} {D : va_G} {dA : Bool → ClassId} {k h : Nat} {q : Nat → Nat} {X : xU → Nat → List Value → List Value → Prop} {u : xU} {pc : Nat} {vs st : List Value}
variable {y : MethodName} {bc : ByteArray} {bL lvl idx : Nat}
theorem x_callI {ret : Option FieldType} {post : Int → xU → Prop} (hX : XOK l (xR k) cc nL R D dA (xw k dA h q) X) (hk : k < 2) (As : List Value) (rest : List Value) (hM : XM l y bc bL ret lvl D dA (xw k dA h q) (.ref h :: As) u post)
    (w1 : Cond.methodLink (xR k) idx y ∈ lw_all) (w2 : Cond.instanceMethod y ∈ lw_all) (w3 : Cond.selects (xR k) y y ∈ lw_all) (w4 : Cond.initialized (xR k) ∈ lw_all) (w5 : Cond.code y bc bL ret ∈ lw_all) (hds : dsc (xR k) y As.length) (hR : lvl + 1 ≤ R.frames ∧ 8 + (bL + 11) + 30 * lvl ≤ R.locals)
    (hst : st = As.reverse ++ .ref h :: rest) (hc : (rest.map fun v => v.category).sum ≤ 8) (hd : decode cc pc = .ok (.invokevirtual idx, 3)) (kk : ∀ (a : Int) (u' : xU), post a u' → X u' (pc + 3) vs (vI a :: rest)) : X u pc vs st := by
  obtain ⟨p, e, s, m, args, below, meth, c, Q, A, cells, slots, h1, h2, h3, h4, h5, h6, h7, h8, rfl⟩ := hX
  intro H locs ls hP hD hS hl
  have hF : ∀ a, va_A (xw k dA h q u) H.size a → A a := fun a z => by
    rcases z with ⟨i, e0, z⟩ | z
    · exact hD.2 i (a, e0) z
    · exact h7 a (Nat.le_trans hS.1 z)
  refine va_calli (va_runV (As := As) (rest := rest) ⟨h1, h2, h3, h4, h5⟩ (hM H.size) (cwV As.length h5 (lw_V w1 w2 w3 w4 w5) rfl rfl rfl hds hR) ⟨xPc_blind, va_recv h6 hP (ci := k) (q0 := 0) (xcl_at hk) rfl, fun U hU hW => ⟨rfl, by rw [hU], by rw [hU]; exact hP, va_K.moved hW.alike h6, hD.weaken (fun _ _ _ _ => trivial)⟩⟩ rfl rfl hl.1 hst (lv_room hc) hd h8) hS (fun a _ z => hF a z) hF (fun r u' t H1 locs1 ht hvm hw hB hz1 hk1 hS1 => ?_)
  obtain ⟨a, rfl, hpost⟩ := hw
  obtain ⟨hP1, hK1, hD1⟩ := hB
  rw [ht] at hP1
  exact kk a u' hpost H1 locs1 ls hP1 (hD1.weaken (fun _ _ _ z => hF _ z)) hS1 hl
theorem x_callV {post : xU → Prop} (hX : XOK l (xR k) cc nL R D dA (xw k dA h q) X) (hk : k < 2) (As : List Value) (rest : List Value) (hM : XV l y bc bL lvl D dA (xw k dA h q) (.ref h :: As) u post)
    (w1 : Cond.methodLink (xR k) idx y ∈ lw_all) (w2 : Cond.instanceMethod y ∈ lw_all) (w3 : Cond.selects (xR k) y y ∈ lw_all) (w4 : Cond.initialized (xR k) ∈ lw_all) (w5 : Cond.code y bc bL none ∈ lw_all) (hds : dsc (xR k) y As.length) (hR : lvl + 1 ≤ R.frames ∧ 8 + (bL + 11) + 30 * lvl ≤ R.locals)
    (hst : st = As.reverse ++ .ref h :: rest) (hc : (rest.map fun v => v.category).sum ≤ 8) (hd : decode cc pc = .ok (.invokevirtual idx, 3)) (kk : ∀ (u' : xU), post u' → X u' (pc + 3) vs rest) : X u pc vs st := by
  obtain ⟨p, e, s, m, args, below, meth, c, Q, A, cells, slots, h1, h2, h3, h4, h5, h6, h7, h8, rfl⟩ := hX
  intro H locs ls hP hD hS hl
  have hF : ∀ a, va_A (xw k dA h q u) H.size a → A a := fun a z => by
    rcases z with ⟨i, e0, z⟩ | z
    · exact hD.2 i (a, e0) z
    · exact h7 a (Nat.le_trans hS.1 z)
  refine va_callv (va_runV (As := As) (rest := rest) ⟨h1, h2, h3, h4, h5⟩ (hM H.size) (cwV As.length h5 (lw_V w1 w2 w3 w4 w5) rfl rfl rfl hds hR) ⟨xPc_blind, va_recv h6 hP (ci := k) (q0 := 0) (xcl_at hk) rfl, fun U hU hW => ⟨rfl, by rw [hU], by rw [hU]; exact hP, va_K.moved hW.alike h6, hD.weaken (fun _ _ _ _ => trivial)⟩⟩ rfl rfl hl.1 hst (lv_room hc) hd h8) hS (fun a _ z => hF a z) hF (fun u' t H1 locs1 ht hvm hw hB hz1 hk1 hS1 => ?_)
  obtain ⟨hP1, hK1, hD1⟩ := hB
  rw [ht] at hP1
  exact kk u' hw H1 locs1 ls hP1 (hD1.weaken (fun _ _ _ z => hF _ z)) hS1 hl
end XCall
section XStat
variable {σ : Type} {l : Launch} {own : String} {cc : ByteArray} {nL : Nat} {R : Room} {D : va_G} {dA : Bool → ClassId} {Wf : σ → va_W} {X : σ → Nat → List Value → List Value → Prop} {u : σ} {pc : Nat} {vs st : List Value}
variable {y : MethodName} {bc : ByteArray} {bL lvl idx : Nat}
/-- a static method's world: nothing -/
abbrev w0 : Unit → va_W := fun _ => []
theorem x_callS {ret : Option FieldType} {post : Int → Unit → Prop} (hX : XOK l own cc nL R D dA Wf X) (As : List Value) (rest : List Value) (hM : XM l y bc bL ret lvl D dA w0 As () post)
    (w1 : Cond.methodLink own idx y ∈ lw_all) (w2 : Cond.static y ∈ lw_all) (w3 : Cond.initialized y.cls ∈ lw_all) (w5 : Cond.code y bc bL ret ∈ lw_all) (hds : dsc y.cls y As.length) (hR : lvl + 1 ≤ R.frames ∧ 8 + (bL + 11) + 30 * lvl ≤ R.locals)
    (hst : st = As.reverse ++ rest) (hc : (rest.map fun v => v.category).sum ≤ 8) (hd : decode cc pc = .ok (.invokestatic idx, 3)) (kk : ∀ (a : Int), post a () → X u (pc + 3) vs (vI a :: rest)) : X u pc vs st := by
  obtain ⟨p, e, s, m, args, below, meth, c, Q, A, cells, slots, h1, h2, h3, h4, h5, h6, h7, h8, rfl⟩ := hX
  intro H locs ls hP hD hS hl
  have hF : ∀ a, va_A (w0 ()) H.size a → A a := fun a z => by
    rcases z with ⟨i, e0, z⟩ | z
    · simp at z
    · exact h7 a (Nat.le_trans hS.1 z)
  refine va_calli (va_runS (As := As) (rest := rest) ⟨h1, h2, h3, h4, h5⟩ (hM H.size) (va_cwS As.length h5 (lw_S w1 w2 w3 w5) rfl rfl rfl hds.2 hR) ⟨xPc_blind, fun U hU hW => ⟨rfl, by rw [hU], fun k0 q0 z => by simp at z, va_K.moved hW.alike h6, ⟨fun i j p0 q0 z => by simp at z, fun k0 q0 z => by simp at z⟩⟩⟩ rfl rfl hl.1 hst (lv_room hc) hd h8) hS (fun a _ z => hF a z) hF (fun r u' t H1 locs1 ht hvm hw hB hz1 hk1 hS1 => ?_)
  obtain ⟨a, rfl, hpost⟩ := hw
  refine kk a hpost H1 locs1 ls (hP.kept fun k0 q0 z => hk1 q0.1 (hP k0 q0 z).lt (fun w => ?_)) hD hS1 hl
  rcases w with ⟨i, e0, w⟩ | w
  · simp at w
  · exact absurd (hP k0 q0 z).lt (by omega)
end XStat
end
section
set_option maxRecDepth 100000
theorem iI_shr {a : Int} (k : Nat) {s : Int32} (hs : (s.toBitVec.smod 32).toNat = k) (h : inR a) : iI a >>> s = iI (a / 2 ^ k) := by
  rw [← Int32.toInt_inj, pk_shr _ _ k hs, iI_toInt h, Int.shiftRight_eq_div_pow, iI_toInt]
  · rfl
  · have h1 := h.1
    have h2 := h.2
    have hp : (0 : Int) < 2 ^ k := Int.pow_pos (by decide)
    have hp1 : (1 : Int) ≤ 2 ^ k := hp
    constructor
    · refine Int.le_ediv_of_mul_le hp ?_
      have := Int.mul_le_mul_of_nonneg_left hp1 (show (0 : Int) ≤ 2147483648 by decide)
      omega
    · refine Int.ediv_lt_of_lt_mul hp ?_
      have := Int.mul_le_mul_of_nonneg_left hp1 (show (0 : Int) ≤ 2147483648 by decide)
      omega
theorem iI_shr5 {a : Int} (h : inR a) : iI a >>> (iI 5 &&& 31) = iI (a / 32) := iI_shr 5 (by decide +kernel) h
theorem iI_shr1 {a : Int} (h : inR a) : iI a >>> (iI 1 &&& 31) = iI (a / 2) := iI_shr 1 (by decide +kernel) h
theorem iI_and31 {a : Int} (h0 : 0 ≤ a) (h : a < 2147483648) : iI a &&& iI 31 = iI (a % 32) := by
  obtain ⟨n, rfl⟩ := Int.eq_ofNat_of_zero_le h0
  rw [iI_nI, pk_andN (k := 5) (by omega) (by decide +kernel)]
  show nI (n % 32) = iI ((n : Int) % 32)
  rw [← iI_nI]
  congr 1
theorem iI_div {a d : Int} (h0 : 0 ≤ a) (h : a < 2147483648) (d0 : 0 < d) (hd : d < 2147483648) : iI a / iI d = iI (a / d) := by
  obtain ⟨n, rfl⟩ := Int.eq_ofNat_of_zero_le h0
  obtain ⟨m, rfl⟩ := Int.eq_ofNat_of_zero_le (Int.le_of_lt d0)
  rw [iI_nI, iI_nI, pk_div (by omega) (by omega) (by omega), ← iI_nI]
  congr 1
theorem iI_rem {a d : Int} (h0 : 0 ≤ a) (h : a < 2147483648) (d0 : 0 < d) (hd : d < 2147483648) : iI a - iI a / iI d * iI d = iI (a % d) := by
  obtain ⟨n, rfl⟩ := Int.eq_ofNat_of_zero_le h0
  obtain ⟨m, rfl⟩ := Int.eq_ofNat_of_zero_le (Int.le_of_lt d0)
  rw [iI_nI, iI_nI, pk_rem (by omega) (by omega) (by omega), ← iI_nI]
  congr 1
theorem iI_ne0 {a : Int} (h : inR a) (h0 : a ≠ 0) : ¬ iI a = 0 := by
  rw [← iI_0]
  exact fun z => h0 ((iI_eq h r0).mp z)
theorem mulb {a b A B : Int} (ha : -A ≤ a ∧ a ≤ A) (hb : -B ≤ b ∧ b ≤ B) : -(A * B) ≤ a * b ∧ a * b ≤ A * B := by
  have hA : 0 ≤ A := by omega
  have hB : 0 ≤ B := by omega
  rcases Int.le_total 0 a with h | h
  · have h1 : a * b ≤ a * B := Int.mul_le_mul_of_nonneg_left hb.2 h
    have h2 : a * B ≤ A * B := Int.mul_le_mul_of_nonneg_right ha.2 hB
    have h3 : a * (-B) ≤ a * b := Int.mul_le_mul_of_nonneg_left hb.1 h
    rw [Int.mul_neg] at h3
    constructor <;> omega
  · have h1 : (-a) * b ≤ (-a) * B := Int.mul_le_mul_of_nonneg_left hb.2 (by omega)
    have h2 : (-a) * B ≤ A * B := Int.mul_le_mul_of_nonneg_right (by omega) hB
    have h3 : (-a) * (-B) ≤ (-a) * b := Int.mul_le_mul_of_nonneg_left hb.1 (by omega)
    have e1 : (-a) * b = -(a * b) := Int.neg_mul a b
    have e2 : (-a) * B = -(a * B) := Int.neg_mul a B
    have e3 : (-a) * (-B) = a * B := Int.neg_mul_neg a B
    rw [e1, e2] at h1
    rw [e2] at h2
    rw [e3, e1] at h3
    constructor <;> omega
/-- the least and the greatest of a * x for x from lo to hi -/
def mnL (a lo hi : Int) : Int := if 0 < a then a * lo else a * hi
def mxL (a lo hi : Int) : Int := if 0 < a then a * hi else a * lo
theorem mnL_p {a lo hi : Int} (h : 0 < a) : mnL a lo hi = a * lo := if_pos h
theorem mnL_n {a lo hi : Int} (h : a ≤ 0) : mnL a lo hi = a * hi := if_neg (by omega)
theorem mxL_p {a lo hi : Int} (h : 0 < a) : mxL a lo hi = a * hi := if_pos h
theorem mxL_n {a lo hi : Int} (h : a ≤ 0) : mxL a lo hi = a * lo := if_neg (by omega)
theorem mL_in {a lo hi x : Int} (h1 : lo ≤ x) (h2 : x ≤ hi) : mnL a lo hi ≤ a * x ∧ a * x ≤ mxL a lo hi := by
  rcases Int.lt_or_le 0 a with h | h
  · rw [mnL_p h, mxL_p h]
    exact ⟨Int.mul_le_mul_of_nonneg_left h1 (by omega), Int.mul_le_mul_of_nonneg_left h2 (by omega)⟩
  · rw [mnL_n h, mxL_n h]
    have a1 : (-a) * x ≤ (-a) * hi := Int.mul_le_mul_of_nonneg_left h2 (by omega)
    have a2 : (-a) * lo ≤ (-a) * x := Int.mul_le_mul_of_nonneg_left h1 (by omega)
    rw [Int.neg_mul, Int.neg_mul] at a1 a2
    constructor <;> omega
theorem mL_b {a lo hi A B : Int} (ha : -A ≤ a ∧ a ≤ A) (hl : -B ≤ lo ∧ lo ≤ B) (hh : -B ≤ hi ∧ hi ≤ B) : (-(A * B) ≤ mnL a lo hi ∧ mnL a lo hi ≤ A * B) ∧ (-(A * B) ≤ mxL a lo hi ∧ mxL a lo hi ≤ A * B) := by
  unfold mnL mxL
  split
  · exact ⟨mulb ha hl, mulb ha hh⟩
  · exact ⟨mulb ha hh, mulb ha hl⟩
/-- clipped -/
def cl (t : Int) : Int := if 0 < t then t else 0
theorem cl_p {t : Int} (h : 0 < t) : cl t = t := if_pos h
theorem cl_n {t : Int} (h : t ≤ 0) : cl t = 0 := if_neg (by omega)
theorem cl_ge (t : Int) : 0 ≤ cl t ∧ t ≤ cl t := by unfold cl; split <;> omega
theorem cl_b {t B : Int} (h : -B ≤ t ∧ t ≤ B) : -B ≤ cl t ∧ cl t ≤ B := by unfold cl; split <;> omega
theorem cl_mono {s t : Int} (h : s ≤ t) : cl s ≤ cl t := by unfold cl; split <;> split <;> omega
/-- the network over Int -/
def isO (p : Nat) : Prop := (6 ≤ p ∧ p ≤ 8) ∨ p = 15 ∨ p = 16 ∨ p = 19
def NB (N : Nat → Int) : Prop := ∀ p : Nat, p < 20 → (-50 ≤ N p ∧ N p ≤ 50) ∧ (¬ isO p → -5 ≤ N p ∧ N p ≤ 5)
def s1 (N : Nat → Int) (k : Nat) (x y : Int) : Int := N (2 * k) * x + N (2 * k + 1) * y + N (6 + k)
def ps2 (N : Nat → Int) (k : Nat) (x y : Int) : Nat → Int
  | 0 => N (15 + k)
  | i + 1 => ps2 N k x y i + N (9 + 3 * k + i) * cl (s1 N i x y)
def s2 (N : Nat → Int) (k : Nat) (x y : Int) : Int := ps2 N k x y 3
def ps3 (N : Nat → Int) (x y : Int) : Nat → Int
  | 0 => N 19
  | i + 1 => ps3 N x y i + N (17 + i) * cl (s2 N i x y)
def s3 (N : Nat → Int) (x y : Int) : Int := ps3 N x y 2
def nV (N : Nat → Int) (u : Nat) (x y : Int) : Int := if u < 3 then s1 N u x y else if u < 5 then s2 N (u - 3) x y else s3 N x y
abbrev inB (x : Int) : Prop := -16 ≤ x ∧ x ≤ 16
theorem NB.f {N : Nat → Int} (h : NB N) (p : Nat) (hp : p < 20) (ho : ¬ isO p) : -5 ≤ N p ∧ N p ≤ 5 := (h p hp).2 ho
theorem NB.o {N : Nat → Int} (h : NB N) (p : Nat) (hp : p < 20) : -50 ≤ N p ∧ N p ≤ 50 := (h p hp).1
theorem s1_b {N : Nat → Int} (h : NB N) {k : Nat} (hk : k < 3) {x y : Int} (hx : inB x) (hy : inB y) : -210 ≤ s1 N k x y ∧ s1 N k x y ≤ 210 := by
  have a1 := mulb (h.f (2 * k) (by omega) (by unfold isO; omega)) hx
  have a2 := mulb (h.f (2 * k + 1) (by omega) (by unfold isO; omega)) hy
  have a3 := h.o (6 + k) (by omega)
  unfold s1
  constructor <;> omega
theorem ps2_b {N : Nat → Int} (h : NB N) {k : Nat} (hk : k < 2) {x y : Int} (hx : inB x) (hy : inB y) : ∀ i : Nat, i ≤ 3 → -(50 + 1050 * (i : Int)) ≤ ps2 N k x y i ∧ ps2 N k x y i ≤ 50 + 1050 * (i : Int)
  | 0, _ => by
    have := h.o (15 + k) (by omega)
    unfold ps2
    constructor <;> omega
  | i + 1, hi => by
    have a1 := ps2_b h hk hx hy i (by omega)
    have a2 := mulb (h.f (9 + 3 * k + i) (by omega) (by unfold isO; omega)) (cl_b (s1_b h (show i < 3 by omega) hx hy))
    unfold ps2
    constructor <;> omega
theorem s2_b {N : Nat → Int} (h : NB N) {k : Nat} (hk : k < 2) {x y : Int} (hx : inB x) (hy : inB y) : -3200 ≤ s2 N k x y ∧ s2 N k x y ≤ 3200 := by
  have := ps2_b h hk hx hy 3 (by omega)
  unfold s2
  constructor <;> omega
theorem ps3_b {N : Nat → Int} (h : NB N) {x y : Int} (hx : inB x) (hy : inB y) : ∀ i : Nat, i ≤ 2 → -(50 + 16000 * (i : Int)) ≤ ps3 N x y i ∧ ps3 N x y i ≤ 50 + 16000 * (i : Int)
  | 0, _ => by
    have := h.o 19 (by omega)
    unfold ps3
    constructor <;> omega
  | i + 1, hi => by
    have a1 := ps3_b h hx hy i (by omega)
    have a2 := mulb (h.f (17 + i) (by omega) (by unfold isO; omega)) (cl_b (s2_b h (show i < 2 by omega) hx hy))
    unfold ps3
    constructor <;> omega
theorem s3_b {N : Nat → Int} (h : NB N) {x y : Int} (hx : inB x) (hy : inB y) : -32050 ≤ s3 N x y ∧ s3 N x y ≤ 32050 := by
  have := ps3_b h hx hy 2 (by omega)
  unfold s3
  constructor <;> omega
theorem nV_b {N : Nat → Int} (h : NB N) (u : Nat) {x y : Int} (hx : inB x) (hy : inB y) : -32050 ≤ nV N u x y ∧ nV N u x y ≤ 32050 := by
  unfold nV
  split
  · next h1 => have := s1_b h h1 hx hy; omega
  · split
    · have := s2_b h (show u - 3 < 2 by omega) hx hy; omega
    · exact s3_b h hx hy
/-- a pattern: bit k for every k that holds -/
def patN (b : Nat → Bool) : Nat → Nat
  | 0 => 0
  | n + 1 => patN b n + (if b n = true then 2 ^ n else 0)
theorem patN_lt (b : Nat → Bool) : ∀ n : Nat, patN b n < 2 ^ n
  | 0 => by simp [patN]
  | n + 1 => by
    have := patN_lt b n
    unfold patN
    rw [Nat.pow_succ]
    split <;> omega
theorem pat_or : ∀ k, k < 5 → ∀ p, p < 16 → p < 2 ^ k → nI p ||| (nI 1 <<< (nI k &&& 31)) = nI (p + 2 ^ k) := by decide +kernel
theorem iI_por {k p : Nat} (hk : k < 5) (hp : p < 2 ^ k) : iI (p : Int) ||| (iI 1 <<< (iI (k : Int) &&& 31)) = iI ((p + 2 ^ k : Nat) : Int) := by
  have h16 : p < 16 := Nat.lt_of_lt_of_le hp (Nat.pow_le_pow_right (by decide) (show k ≤ 4 by omega))
  have := pat_or k hk p h16 hp
  rw [iI_nI, iI_nI, iI_nI]
  exact this
end
section
set_option maxRecDepth 100000
set_option maxHeartbeats 4000000 in
theorem tX0_isOffset (l : Launch) (D : va_G) (dA : Bool → ClassId) (x : Int) (hx : inR x) : XM l yX0_isOffset cX0_isOffset 1 (some .boolean) 0 D dA w0 [vI x] () (fun r _ => (r = 1 ∧ ((6 ≤ x ∧ x ≤ 8) ∨ x = 15 ∨ x = 16 ∨ x = 19)) ∨ (r = 0 ∧ ¬ ((6 ≤ x ∧ x ≤ 8) ∨ x = 15 ∨ x = 16 ∨ x = 19))) := by
  refine XM.ofZ (by decide +kernel) (by simp [Value.category]) (Nat.le_of_ble_eq_true rfl) ?_
  intro X hX hret
  have hX : XOK l (xR 0) cX0_isOffset 1 (rmL 0) D dA w0 X := hX
  refine x_iload_n hX dX0_isOffset_0 rfl ?_
  refine x_bipush hX dX0_isOffset_1 (by decide +kernel) ?_
  refine x_icmp_lt (tgt := 12) hX dX0_isOffset_3 (by decide) ⟨by omega, by omega⟩ ⟨by omega, by omega⟩ (fun c1 => ?_) (fun c1 => ?_)
  · refine x_iload_n hX dX0_isOffset_12 rfl ?_
    refine x_bipush hX dX0_isOffset_13 (by decide +kernel) ?_
    refine x_icmp_eq (tgt := 30) hX dX0_isOffset_15 (by decide) ⟨by omega, by omega⟩ ⟨by omega, by omega⟩ (fun c2 => ?_) (fun c2 => ?_)
    · refine x_iconst hX dX0_isOffset_30 ?_
      refine x_goto (tgt := 35) hX dX0_isOffset_31 (by decide) ?_
      exact hret _ () _ _ dX0_isOffset_35 (by decide) (by omega)
    · refine x_iload_n hX dX0_isOffset_18 rfl ?_
      refine x_bipush hX dX0_isOffset_19 (by decide +kernel) ?_
      refine x_icmp_eq (tgt := 30) hX dX0_isOffset_21 (by decide) ⟨by omega, by omega⟩ ⟨by omega, by omega⟩ (fun c3 => ?_) (fun c3 => ?_)
      · refine x_iconst hX dX0_isOffset_30 ?_
        refine x_goto (tgt := 35) hX dX0_isOffset_31 (by decide) ?_
        exact hret _ () _ _ dX0_isOffset_35 (by decide) (by omega)
      · refine x_iload_n hX dX0_isOffset_24 rfl ?_
        refine x_bipush hX dX0_isOffset_25 (by decide +kernel) ?_
        refine x_icmp_ne (tgt := 34) hX dX0_isOffset_27 (by decide) ⟨by omega, by omega⟩ ⟨by omega, by omega⟩ (fun c4 => ?_) (fun c4 => ?_)
        · refine x_iconst hX dX0_isOffset_34 ?_
          exact hret _ () _ _ dX0_isOffset_35 (by decide) (by omega)
        · refine x_iconst hX dX0_isOffset_30 ?_
          refine x_goto (tgt := 35) hX dX0_isOffset_31 (by decide) ?_
          exact hret _ () _ _ dX0_isOffset_35 (by decide) (by omega)
  · refine x_iload_n hX dX0_isOffset_6 rfl ?_
    refine x_bipush hX dX0_isOffset_7 (by decide +kernel) ?_
    refine x_icmp_le (tgt := 30) hX dX0_isOffset_9 (by decide) ⟨by omega, by omega⟩ ⟨by omega, by omega⟩ (fun c5 => ?_) (fun c5 => ?_)
    · refine x_iconst hX dX0_isOffset_30 ?_
      refine x_goto (tgt := 35) hX dX0_isOffset_31 (by decide) ?_
      exact hret _ () _ _ dX0_isOffset_35 (by decide) (by omega)
    · refine x_iload_n hX dX0_isOffset_12 rfl ?_
      refine x_bipush hX dX0_isOffset_13 (by decide +kernel) ?_
      refine x_icmp_eq (tgt := 30) hX dX0_isOffset_15 (by decide) ⟨by omega, by omega⟩ ⟨by omega, by omega⟩ (fun c6 => ?_) (fun c6 => ?_)
      · refine x_iconst hX dX0_isOffset_30 ?_
        refine x_goto (tgt := 35) hX dX0_isOffset_31 (by decide) ?_
        exact hret _ () _ _ dX0_isOffset_35 (by decide) (by omega)
      · refine x_iload_n hX dX0_isOffset_18 rfl ?_
        refine x_bipush hX dX0_isOffset_19 (by decide +kernel) ?_
        refine x_icmp_eq (tgt := 30) hX dX0_isOffset_21 (by decide) ⟨by omega, by omega⟩ ⟨by omega, by omega⟩ (fun c7 => ?_) (fun c7 => ?_)
        · refine x_iconst hX dX0_isOffset_30 ?_
          refine x_goto (tgt := 35) hX dX0_isOffset_31 (by decide) ?_
          exact hret _ () _ _ dX0_isOffset_35 (by decide) (by omega)
        · refine x_iload_n hX dX0_isOffset_24 rfl ?_
          refine x_bipush hX dX0_isOffset_25 (by decide +kernel) ?_
          refine x_icmp_ne (tgt := 34) hX dX0_isOffset_27 (by decide) ⟨by omega, by omega⟩ ⟨by omega, by omega⟩ (fun c8 => ?_) (fun c8 => ?_)
          · refine x_iconst hX dX0_isOffset_34 ?_
            exact hret _ () _ _ dX0_isOffset_35 (by decide) (by omega)
          · refine x_iconst hX dX0_isOffset_30 ?_
            refine x_goto (tgt := 35) hX dX0_isOffset_31 (by decide) ?_
            exact hret _ () _ _ dX0_isOffset_35 (by decide) (by omega)
set_option maxHeartbeats 4000000 in
theorem tX0_isInput (l : Launch) (D : va_G) (dA : Bool → ClassId) (x : Int) (hx : inR x) : XM l yX0_isInput cX0_isInput 1 (some .boolean) 0 D dA w0 [vI x] () (fun r _ => (r = 1 ∧ (-16 ≤ x ∧ x < 16)) ∨ (r = 0 ∧ ¬ (-16 ≤ x ∧ x < 16))) := by
  refine XM.ofZ (by decide +kernel) (by simp [Value.category]) (Nat.le_of_ble_eq_true rfl) ?_
  intro X hX hret
  have hX : XOK l (xR 0) cX0_isInput 1 (rmL 0) D dA w0 X := hX
  refine x_iload_n hX dX0_isInput_0 rfl ?_
  refine x_bipush hX dX0_isInput_1 (by decide +kernel) ?_
  refine x_icmp_lt (tgt := 16) hX dX0_isInput_3 (by decide) ⟨by omega, by omega⟩ ⟨by omega, by omega⟩ (fun c1 => ?_) (fun c1 => ?_)
  · refine x_iconst hX dX0_isInput_16 ?_
    exact hret _ () _ _ dX0_isInput_17 (by decide) (by omega)
  · refine x_iload_n hX dX0_isInput_6 rfl ?_
    refine x_bipush hX dX0_isInput_7 (by decide +kernel) ?_
    refine x_icmp_ge (tgt := 16) hX dX0_isInput_9 (by decide) ⟨by omega, by omega⟩ ⟨by omega, by omega⟩ (fun c2 => ?_) (fun c2 => ?_)
    · refine x_iconst hX dX0_isInput_16 ?_
      exact hret _ () _ _ dX0_isInput_17 (by decide) (by omega)
    · refine x_iconst hX dX0_isInput_12 ?_
      refine x_goto (tgt := 17) hX dX0_isInput_13 (by decide) ?_
      exact hret _ () _ _ dX0_isInput_17 (by decide) (by omega)
set_option maxHeartbeats 4000000 in
theorem tX0_isInterval (l : Launch) (D : va_G) (dA : Bool → ClassId) (x : Int) (hx : inR x) : XM l yX0_isInterval cX0_isInterval 1 (some .boolean) 0 D dA w0 [vI x] () (fun r _ => (r = 1 ∧ (0 ≤ x ∧ x ≤ 1023 ∧ x / 32 ≤ x % 32)) ∨ (r = 0 ∧ ¬ (0 ≤ x ∧ x ≤ 1023 ∧ x / 32 ≤ x % 32))) := by
  refine XM.ofZ (by decide +kernel) (by simp [Value.category]) (Nat.le_of_ble_eq_true rfl) ?_
  intro X hX hret
  have hX : XOK l (xR 0) cX0_isInterval 1 (rmL 0) D dA w0 X := hX
  refine x_iload_n hX dX0_isInterval_0 rfl ?_
  refine x_if_lt (tgt := 25) hX dX0_isInterval_1 (by decide) ⟨by omega, by omega⟩ (fun c1 => ?_) (fun c1 => ?_)
  · refine x_iconst hX dX0_isInterval_25 ?_
    exact hret _ () _ _ dX0_isInterval_26 (by decide) (by omega)
  · refine x_iload_n hX dX0_isInterval_4 rfl ?_
    refine x_sipush hX dX0_isInterval_5 (by decide +kernel) ?_
    refine x_icmp_gt (tgt := 25) hX dX0_isInterval_8 (by decide) ⟨by omega, by omega⟩ ⟨by omega, by omega⟩ (fun c2 => ?_) (fun c2 => ?_)
    · refine x_iconst hX dX0_isInterval_25 ?_
      exact hret _ () _ _ dX0_isInterval_26 (by decide) (by omega)
    · refine x_iload_n hX dX0_isInterval_11 rfl ?_
      refine x_iconst hX dX0_isInterval_12 ?_
      refine x_ishr (v := iI (x / 32)) hX dX0_isInterval_13 (iI_shr5 ⟨by omega, by omega⟩) ?_
      refine x_iload_n hX dX0_isInterval_14 rfl ?_
      refine x_bipush hX dX0_isInterval_15 (by decide +kernel) ?_
      refine x_iand (v := iI (x % 32)) hX dX0_isInterval_17 (iI_and31 (by omega) (by omega)) ?_
      refine x_icmp_gt (tgt := 25) hX dX0_isInterval_18 (by decide) ⟨by omega, by omega⟩ ⟨by omega, by omega⟩ (fun c3 => ?_) (fun c3 => ?_)
      · refine x_iconst hX dX0_isInterval_25 ?_
        exact hret _ () _ _ dX0_isInterval_26 (by decide) (by omega)
      · refine x_iconst hX dX0_isInterval_21 ?_
        refine x_goto (tgt := 26) hX dX0_isInterval_22 (by decide) ?_
        exact hret _ () _ _ dX0_isInterval_26 (by decide) (by omega)
set_option maxHeartbeats 4000000 in
theorem tX0_around (l : Launch) (D : va_G) (dA : Bool → ClassId) (x r : Int) (hx : -16 ≤ x ∧ x < 16) (hr : 0 ≤ r ∧ r ≤ 32) : XM l yX0_around cX0_around 4 (some .int) 0 D dA w0 [vI x, vI r] () (fun a _ => a = 32 * ((if x - r < -16 then -16 else x - r) + 16) + (if x + r > 15 then 15 else x + r) + 16) := by
  refine XM.of (by decide +kernel) (by simp [Value.category]) (Nat.le_of_ble_eq_true rfl) ?_
  intro X hX hret
  have hX : XOK l (xR 0) cX0_around 4 (rmL 0) D dA w0 X := hX
  refine x_iload_n hX dX0_around_0 rfl ?_
  refine x_iload_n hX dX0_around_1 rfl ?_
  refine x_isub hX dX0_around_2 ?_
  refine x_bipush hX dX0_around_3 (by decide +kernel) ?_
  refine x_icmp_ge (tgt := 13) hX dX0_around_5 (by decide) ⟨by omega, by omega⟩ ⟨by omega, by omega⟩ (fun c1 => ?_) (fun c1 => ?_)
  · refine x_iload_n hX dX0_around_13 rfl ?_
    refine x_iload_n hX dX0_around_14 rfl ?_
    refine x_isub hX dX0_around_15 ?_
    refine x_istore_n (vs' := [vI x, vI r, vI (x - r)]) hX dX0_around_16 ⟨Nat.le_of_ble_eq_true rfl, Nat.le_of_ble_eq_true rfl⟩ rfl ?_
    refine x_iload_n hX dX0_around_17 rfl ?_
    refine x_iload_n hX dX0_around_18 rfl ?_
    refine x_iadd hX dX0_around_19 ?_
    refine x_bipush hX dX0_around_20 (by decide +kernel) ?_
    refine x_icmp_lt (tgt := 30) hX dX0_around_22 (by decide) ⟨by omega, by omega⟩ ⟨by omega, by omega⟩ (fun c2 => ?_) (fun c2 => ?_)
    · refine x_iload_n hX dX0_around_30 rfl ?_
      refine x_iload_n hX dX0_around_31 rfl ?_
      refine x_iadd hX dX0_around_32 ?_
      refine x_istore_n (vs' := [vI x, vI r, vI (x - r), vI (x + r)]) hX dX0_around_33 ⟨Nat.le_of_ble_eq_true rfl, Nat.le_of_ble_eq_true rfl⟩ rfl ?_
      refine x_bipush hX dX0_around_34 (by decide +kernel) ?_
      refine x_iload_n hX dX0_around_36 rfl ?_
      refine x_bipush hX dX0_around_37 (by decide +kernel) ?_
      refine x_iadd hX dX0_around_39 ?_
      refine x_imul hX dX0_around_40 ?_
      refine x_iload_n hX dX0_around_41 rfl ?_
      refine x_iadd hX dX0_around_42 ?_
      refine x_bipush hX dX0_around_43 (by decide +kernel) ?_
      refine x_iadd hX dX0_around_45 ?_
      exact hret _ () _ _ dX0_around_46 (by omega)
    · refine x_bipush hX dX0_around_25 (by decide +kernel) ?_
      refine x_goto (tgt := 33) hX dX0_around_27 (by decide) ?_
      refine x_istore_n (vs' := [vI x, vI r, vI (x - r), vI 15]) hX dX0_around_33 ⟨Nat.le_of_ble_eq_true rfl, Nat.le_of_ble_eq_true rfl⟩ rfl ?_
      refine x_bipush hX dX0_around_34 (by decide +kernel) ?_
      refine x_iload_n hX dX0_around_36 rfl ?_
      refine x_bipush hX dX0_around_37 (by decide +kernel) ?_
      refine x_iadd hX dX0_around_39 ?_
      refine x_imul hX dX0_around_40 ?_
      refine x_iload_n hX dX0_around_41 rfl ?_
      refine x_iadd hX dX0_around_42 ?_
      refine x_bipush hX dX0_around_43 (by decide +kernel) ?_
      refine x_iadd hX dX0_around_45 ?_
      exact hret _ () _ _ dX0_around_46 (by omega)
  · refine x_bipush hX dX0_around_8 (by decide +kernel) ?_
    refine x_goto (tgt := 16) hX dX0_around_10 (by decide) ?_
    refine x_istore_n (vs' := [vI x, vI r, vI ((-16))]) hX dX0_around_16 ⟨Nat.le_of_ble_eq_true rfl, Nat.le_of_ble_eq_true rfl⟩ rfl ?_
    refine x_iload_n hX dX0_around_17 rfl ?_
    refine x_iload_n hX dX0_around_18 rfl ?_
    refine x_iadd hX dX0_around_19 ?_
    refine x_bipush hX dX0_around_20 (by decide +kernel) ?_
    refine x_icmp_lt (tgt := 30) hX dX0_around_22 (by decide) ⟨by omega, by omega⟩ ⟨by omega, by omega⟩ (fun c3 => ?_) (fun c3 => ?_)
    · refine x_iload_n hX dX0_around_30 rfl ?_
      refine x_iload_n hX dX0_around_31 rfl ?_
      refine x_iadd hX dX0_around_32 ?_
      refine x_istore_n (vs' := [vI x, vI r, vI ((-16)), vI (x + r)]) hX dX0_around_33 ⟨Nat.le_of_ble_eq_true rfl, Nat.le_of_ble_eq_true rfl⟩ rfl ?_
      refine x_bipush hX dX0_around_34 (by decide +kernel) ?_
      refine x_iload_n hX dX0_around_36 rfl ?_
      refine x_bipush hX dX0_around_37 (by decide +kernel) ?_
      refine x_iadd hX dX0_around_39 ?_
      refine x_imul hX dX0_around_40 ?_
      refine x_iload_n hX dX0_around_41 rfl ?_
      refine x_iadd hX dX0_around_42 ?_
      refine x_bipush hX dX0_around_43 (by decide +kernel) ?_
      refine x_iadd hX dX0_around_45 ?_
      exact hret _ () _ _ dX0_around_46 (by omega)
    · refine x_bipush hX dX0_around_25 (by decide +kernel) ?_
      refine x_goto (tgt := 33) hX dX0_around_27 (by decide) ?_
      refine x_istore_n (vs' := [vI x, vI r, vI ((-16)), vI 15]) hX dX0_around_33 ⟨Nat.le_of_ble_eq_true rfl, Nat.le_of_ble_eq_true rfl⟩ rfl ?_
      refine x_bipush hX dX0_around_34 (by decide +kernel) ?_
      refine x_iload_n hX dX0_around_36 rfl ?_
      refine x_bipush hX dX0_around_37 (by decide +kernel) ?_
      refine x_iadd hX dX0_around_39 ?_
      refine x_imul hX dX0_around_40 ?_
      refine x_iload_n hX dX0_around_41 rfl ?_
      refine x_iadd hX dX0_around_42 ?_
      refine x_bipush hX dX0_around_43 (by decide +kernel) ?_
      refine x_iadd hX dX0_around_45 ?_
      exact hret _ () _ _ dX0_around_46 (by omega)
set_option maxHeartbeats 4000000 in
theorem tX0_exact (l : Launch) (D : va_G) (dA : Bool → ClassId) (h : Nat) (q : Nat → Nat) (G : Nat → Nat → Int) (sc : List Int) (k : Nat) (i l0 h0 l1 h1 : Int) (hi : i = (k : Int)) (hk : k < 6) (b4 : inR (G 4 k)) (b5 : inR (G 5 k)) : XV l yX0_exact cX0_exact 8 0 D dA (xw 0 dA h q) [.ref h, vI i, vI l0, vI h0, vI l1, vI h1] (G, sc) (fun u => u = (gu (gu G 2 k (G 6 k + mnL (G 4 k) l0 h0 + mnL (G 5 k) l1 h1)) 3 k (G 6 k + mxL (G 4 k) l0 h0 + mxL (G 5 k) l1 h1), sc)) := by
  refine XV.of (by decide +kernel) (by simp [Value.category]) (Nat.le_of_ble_eq_true rfl) ?_
  intro X hX hret
  have hX : XOK l (xR 0) cX0_exact 8 (rmL 0) D dA (xw 0 dA h q) X := hX
  refine x_aload_n hX dX0_exact_0 rfl ?_
  refine x_getA hX (by decide) 4 (by decide) q39 dX0_exact_1 ?_
  refine x_iload_n hX dX0_exact_4 rfl ?_
  refine x_iald hX 4 k (by decide) (by omega) (show _ < 6 by omega) rfl dX0_exact_5 ?_
  refine x_istore (vs' := [.ref h, vI i, vI l0, vI h0, vI l1, vI h1, vI (G 4 k)]) hX dX0_exact_6 ⟨Nat.le_of_ble_eq_true rfl, Nat.le_of_ble_eq_true rfl⟩ rfl ?_
  refine x_aload_n hX dX0_exact_8 rfl ?_
  refine x_getA hX (by decide) 5 (by decide) q40 dX0_exact_9 ?_
  refine x_iload_n hX dX0_exact_12 rfl ?_
  refine x_iald hX 5 k (by decide) (by omega) (show _ < 6 by omega) rfl dX0_exact_13 ?_
  refine x_istore (vs' := [.ref h, vI i, vI l0, vI h0, vI l1, vI h1, vI (G 4 k), vI (G 5 k)]) hX dX0_exact_14 ⟨Nat.le_of_ble_eq_true rfl, Nat.le_of_ble_eq_true rfl⟩ rfl ?_
  refine x_aload_n hX dX0_exact_16 rfl ?_
  refine x_getA hX (by decide) 2 (by decide) q37 dX0_exact_17 ?_
  refine x_iload_n hX dX0_exact_20 rfl ?_
  refine x_aload_n hX dX0_exact_21 rfl ?_
  refine x_getA hX (by decide) 6 (by decide) q41 dX0_exact_22 ?_
  refine x_iload_n hX dX0_exact_25 rfl ?_
  refine x_iald hX 6 k (by decide) (by omega) (show _ < 6 by omega) rfl dX0_exact_26 ?_
  refine x_iload hX dX0_exact_27 rfl ?_
  refine x_if_le (tgt := 39) hX dX0_exact_29 (by decide) ⟨by omega, by omega⟩ (fun c1 => ?_) (fun c1 => ?_)
  · refine x_iload hX dX0_exact_39 rfl ?_
    refine x_iload_n hX dX0_exact_41 rfl ?_
    refine x_imul hX dX0_exact_42 ?_
    refine x_iadd hX dX0_exact_43 ?_
    refine x_iload hX dX0_exact_44 rfl ?_
    refine x_if_le (tgt := 57) hX dX0_exact_46 (by decide) ⟨by omega, by omega⟩ (fun c2 => ?_) (fun c2 => ?_)
    · refine x_iload hX dX0_exact_57 rfl ?_
      refine x_iload hX dX0_exact_59 rfl ?_
      refine x_imul hX dX0_exact_61 ?_
      refine x_iadd hX dX0_exact_62 ?_
      refine x_iast hX 2 k (by decide) (by omega) (show _ < 6 by omega) dX0_exact_63 ?_
      refine x_aload_n hX dX0_exact_64 rfl ?_
      refine x_getA hX (by decide) 3 (by decide) q38 dX0_exact_65 ?_
      refine x_iload_n hX dX0_exact_68 rfl ?_
      refine x_aload_n hX dX0_exact_69 rfl ?_
      refine x_getA hX (by decide) 6 (by decide) q41 dX0_exact_70 ?_
      refine x_iload_n hX dX0_exact_73 rfl ?_
      refine x_iald (v := G 6 k) hX 6 k (by decide) (by omega) (show _ < 6 by omega) (by simp [gu]) dX0_exact_74 ?_
      refine x_iload hX dX0_exact_75 rfl ?_
      refine x_if_le (tgt := 87) hX dX0_exact_77 (by decide) ⟨by omega, by omega⟩ (fun c3 => ?_) (fun c3 => absurd c3 (by omega))
      refine x_iload hX dX0_exact_87 rfl ?_
      refine x_iload_n hX dX0_exact_89 rfl ?_
      refine x_imul hX dX0_exact_90 ?_
      refine x_iadd hX dX0_exact_91 ?_
      refine x_iload hX dX0_exact_92 rfl ?_
      refine x_if_le (tgt := 105) hX dX0_exact_94 (by decide) ⟨by omega, by omega⟩ (fun c4 => ?_) (fun c4 => absurd c4 (by omega))
      refine x_iload hX dX0_exact_105 rfl ?_
      refine x_iload hX dX0_exact_107 rfl ?_
      refine x_imul hX dX0_exact_109 ?_
      refine x_iadd hX dX0_exact_110 ?_
      refine x_iast hX 3 k (by decide) (by omega) (show _ < 6 by omega) dX0_exact_111 ?_
      exact hret _ _ _ dX0_exact_112 (by first | rw [mnL_p (by assumption), mnL_p (by assumption), mxL_p (by assumption), mxL_p (by assumption)] | rw [mnL_p (by assumption), mnL_n (by assumption), mxL_p (by assumption), mxL_n (by assumption)] | rw [mnL_n (by assumption), mnL_p (by assumption), mxL_n (by assumption), mxL_p (by assumption)] | rw [mnL_n (by assumption), mnL_n (by assumption), mxL_n (by assumption), mxL_n (by assumption)])
    · refine x_iload hX dX0_exact_49 rfl ?_
      refine x_iload hX dX0_exact_51 rfl ?_
      refine x_imul hX dX0_exact_53 ?_
      refine x_goto (tgt := 62) hX dX0_exact_54 (by decide) ?_
      refine x_iadd hX dX0_exact_62 ?_
      refine x_iast hX 2 k (by decide) (by omega) (show _ < 6 by omega) dX0_exact_63 ?_
      refine x_aload_n hX dX0_exact_64 rfl ?_
      refine x_getA hX (by decide) 3 (by decide) q38 dX0_exact_65 ?_
      refine x_iload_n hX dX0_exact_68 rfl ?_
      refine x_aload_n hX dX0_exact_69 rfl ?_
      refine x_getA hX (by decide) 6 (by decide) q41 dX0_exact_70 ?_
      refine x_iload_n hX dX0_exact_73 rfl ?_
      refine x_iald (v := G 6 k) hX 6 k (by decide) (by omega) (show _ < 6 by omega) (by simp [gu]) dX0_exact_74 ?_
      refine x_iload hX dX0_exact_75 rfl ?_
      refine x_if_le (tgt := 87) hX dX0_exact_77 (by decide) ⟨by omega, by omega⟩ (fun c5 => ?_) (fun c5 => absurd c5 (by omega))
      refine x_iload hX dX0_exact_87 rfl ?_
      refine x_iload_n hX dX0_exact_89 rfl ?_
      refine x_imul hX dX0_exact_90 ?_
      refine x_iadd hX dX0_exact_91 ?_
      refine x_iload hX dX0_exact_92 rfl ?_
      refine x_if_le (tgt := 105) hX dX0_exact_94 (by decide) ⟨by omega, by omega⟩ (fun c6 => absurd c6 (by omega)) (fun c6 => ?_)
      refine x_iload hX dX0_exact_97 rfl ?_
      refine x_iload hX dX0_exact_99 rfl ?_
      refine x_imul hX dX0_exact_101 ?_
      refine x_goto (tgt := 110) hX dX0_exact_102 (by decide) ?_
      refine x_iadd hX dX0_exact_110 ?_
      refine x_iast hX 3 k (by decide) (by omega) (show _ < 6 by omega) dX0_exact_111 ?_
      exact hret _ _ _ dX0_exact_112 (by first | rw [mnL_p (by assumption), mnL_p (by assumption), mxL_p (by assumption), mxL_p (by assumption)] | rw [mnL_p (by assumption), mnL_n (by assumption), mxL_p (by assumption), mxL_n (by assumption)] | rw [mnL_n (by assumption), mnL_p (by assumption), mxL_n (by assumption), mxL_p (by assumption)] | rw [mnL_n (by assumption), mnL_n (by assumption), mxL_n (by assumption), mxL_n (by assumption)])
  · refine x_iload hX dX0_exact_32 rfl ?_
    refine x_iload_n hX dX0_exact_34 rfl ?_
    refine x_imul hX dX0_exact_35 ?_
    refine x_goto (tgt := 43) hX dX0_exact_36 (by decide) ?_
    refine x_iadd hX dX0_exact_43 ?_
    refine x_iload hX dX0_exact_44 rfl ?_
    refine x_if_le (tgt := 57) hX dX0_exact_46 (by decide) ⟨by omega, by omega⟩ (fun c7 => ?_) (fun c7 => ?_)
    · refine x_iload hX dX0_exact_57 rfl ?_
      refine x_iload hX dX0_exact_59 rfl ?_
      refine x_imul hX dX0_exact_61 ?_
      refine x_iadd hX dX0_exact_62 ?_
      refine x_iast hX 2 k (by decide) (by omega) (show _ < 6 by omega) dX0_exact_63 ?_
      refine x_aload_n hX dX0_exact_64 rfl ?_
      refine x_getA hX (by decide) 3 (by decide) q38 dX0_exact_65 ?_
      refine x_iload_n hX dX0_exact_68 rfl ?_
      refine x_aload_n hX dX0_exact_69 rfl ?_
      refine x_getA hX (by decide) 6 (by decide) q41 dX0_exact_70 ?_
      refine x_iload_n hX dX0_exact_73 rfl ?_
      refine x_iald (v := G 6 k) hX 6 k (by decide) (by omega) (show _ < 6 by omega) (by simp [gu]) dX0_exact_74 ?_
      refine x_iload hX dX0_exact_75 rfl ?_
      refine x_if_le (tgt := 87) hX dX0_exact_77 (by decide) ⟨by omega, by omega⟩ (fun c8 => absurd c8 (by omega)) (fun c8 => ?_)
      refine x_iload hX dX0_exact_80 rfl ?_
      refine x_iload_n hX dX0_exact_82 rfl ?_
      refine x_imul hX dX0_exact_83 ?_
      refine x_goto (tgt := 91) hX dX0_exact_84 (by decide) ?_
      refine x_iadd hX dX0_exact_91 ?_
      refine x_iload hX dX0_exact_92 rfl ?_
      refine x_if_le (tgt := 105) hX dX0_exact_94 (by decide) ⟨by omega, by omega⟩ (fun c9 => ?_) (fun c9 => absurd c9 (by omega))
      refine x_iload hX dX0_exact_105 rfl ?_
      refine x_iload hX dX0_exact_107 rfl ?_
      refine x_imul hX dX0_exact_109 ?_
      refine x_iadd hX dX0_exact_110 ?_
      refine x_iast hX 3 k (by decide) (by omega) (show _ < 6 by omega) dX0_exact_111 ?_
      exact hret _ _ _ dX0_exact_112 (by first | rw [mnL_p (by assumption), mnL_p (by assumption), mxL_p (by assumption), mxL_p (by assumption)] | rw [mnL_p (by assumption), mnL_n (by assumption), mxL_p (by assumption), mxL_n (by assumption)] | rw [mnL_n (by assumption), mnL_p (by assumption), mxL_n (by assumption), mxL_p (by assumption)] | rw [mnL_n (by assumption), mnL_n (by assumption), mxL_n (by assumption), mxL_n (by assumption)])
    · refine x_iload hX dX0_exact_49 rfl ?_
      refine x_iload hX dX0_exact_51 rfl ?_
      refine x_imul hX dX0_exact_53 ?_
      refine x_goto (tgt := 62) hX dX0_exact_54 (by decide) ?_
      refine x_iadd hX dX0_exact_62 ?_
      refine x_iast hX 2 k (by decide) (by omega) (show _ < 6 by omega) dX0_exact_63 ?_
      refine x_aload_n hX dX0_exact_64 rfl ?_
      refine x_getA hX (by decide) 3 (by decide) q38 dX0_exact_65 ?_
      refine x_iload_n hX dX0_exact_68 rfl ?_
      refine x_aload_n hX dX0_exact_69 rfl ?_
      refine x_getA hX (by decide) 6 (by decide) q41 dX0_exact_70 ?_
      refine x_iload_n hX dX0_exact_73 rfl ?_
      refine x_iald (v := G 6 k) hX 6 k (by decide) (by omega) (show _ < 6 by omega) (by simp [gu]) dX0_exact_74 ?_
      refine x_iload hX dX0_exact_75 rfl ?_
      refine x_if_le (tgt := 87) hX dX0_exact_77 (by decide) ⟨by omega, by omega⟩ (fun c10 => absurd c10 (by omega)) (fun c10 => ?_)
      refine x_iload hX dX0_exact_80 rfl ?_
      refine x_iload_n hX dX0_exact_82 rfl ?_
      refine x_imul hX dX0_exact_83 ?_
      refine x_goto (tgt := 91) hX dX0_exact_84 (by decide) ?_
      refine x_iadd hX dX0_exact_91 ?_
      refine x_iload hX dX0_exact_92 rfl ?_
      refine x_if_le (tgt := 105) hX dX0_exact_94 (by decide) ⟨by omega, by omega⟩ (fun c11 => absurd c11 (by omega)) (fun c11 => ?_)
      refine x_iload hX dX0_exact_97 rfl ?_
      refine x_iload hX dX0_exact_99 rfl ?_
      refine x_imul hX dX0_exact_101 ?_
      refine x_goto (tgt := 110) hX dX0_exact_102 (by decide) ?_
      refine x_iadd hX dX0_exact_110 ?_
      refine x_iast hX 3 k (by decide) (by omega) (show _ < 6 by omega) dX0_exact_111 ?_
      exact hret _ _ _ dX0_exact_112 (by first | rw [mnL_p (by assumption), mnL_p (by assumption), mxL_p (by assumption), mxL_p (by assumption)] | rw [mnL_p (by assumption), mnL_n (by assumption), mxL_p (by assumption), mxL_n (by assumption)] | rw [mnL_n (by assumption), mnL_p (by assumption), mxL_n (by assumption), mxL_p (by assumption)] | rw [mnL_n (by assumption), mnL_n (by assumption), mxL_n (by assumption), mxL_n (by assumption)])
set_option maxHeartbeats 4000000 in
theorem tX0_begin (l : Launch) (D : va_G) (dA : Bool → ClassId) (h : Nat) (q : Nat → Nat) (G : Nat → Nat → Int) (sc : List Int) (k : Nat) (i o : Int) (hi : i = (k : Int)) (hk : k < 6) : XV l yX0_begin cX0_begin 3 0 D dA (xw 0 dA h q) [.ref h, vI i, vI o] (G, sc) (fun u => u = (gu (gu (gu (gu (gu (gu G 4 k 0) 5 k 0) 6 k o) 2 k 0) 3 k 0) 7 k 1, sc)) := by
  refine XV.of (by decide +kernel) (by simp [Value.category]) (Nat.le_of_ble_eq_true rfl) ?_
  intro X hX hret
  have hX : XOK l (xR 0) cX0_begin 3 (rmL 0) D dA (xw 0 dA h q) X := hX
  refine x_aload_n hX dX0_begin_0 rfl ?_
  refine x_getA hX (by decide) 4 (by decide) q39 dX0_begin_1 ?_
  refine x_iload_n hX dX0_begin_4 rfl ?_
  refine x_iconst hX dX0_begin_5 ?_
  refine x_iast hX 4 k (by decide) (by omega) (show _ < 6 by omega) dX0_begin_6 ?_
  refine x_aload_n hX dX0_begin_7 rfl ?_
  refine x_getA hX (by decide) 5 (by decide) q40 dX0_begin_8 ?_
  refine x_iload_n hX dX0_begin_11 rfl ?_
  refine x_iconst hX dX0_begin_12 ?_
  refine x_iast hX 5 k (by decide) (by omega) (show _ < 6 by omega) dX0_begin_13 ?_
  refine x_aload_n hX dX0_begin_14 rfl ?_
  refine x_getA hX (by decide) 6 (by decide) q41 dX0_begin_15 ?_
  refine x_iload_n hX dX0_begin_18 rfl ?_
  refine x_iload_n hX dX0_begin_19 rfl ?_
  refine x_iast hX 6 k (by decide) (by omega) (show _ < 6 by omega) dX0_begin_20 ?_
  refine x_aload_n hX dX0_begin_21 rfl ?_
  refine x_getA hX (by decide) 2 (by decide) q37 dX0_begin_22 ?_
  refine x_iload_n hX dX0_begin_25 rfl ?_
  refine x_iconst hX dX0_begin_26 ?_
  refine x_iast hX 2 k (by decide) (by omega) (show _ < 6 by omega) dX0_begin_27 ?_
  refine x_aload_n hX dX0_begin_28 rfl ?_
  refine x_getA hX (by decide) 3 (by decide) q38 dX0_begin_29 ?_
  refine x_iload_n hX dX0_begin_32 rfl ?_
  refine x_iconst hX dX0_begin_33 ?_
  refine x_iast hX 3 k (by decide) (by omega) (show _ < 6 by omega) dX0_begin_34 ?_
  refine x_aload_n hX dX0_begin_35 rfl ?_
  refine x_getA hX (by decide) 7 (by decide) q42 dX0_begin_36 ?_
  refine x_iload_n hX dX0_begin_39 rfl ?_
  refine x_iconst hX dX0_begin_40 ?_
  refine x_zast hX 7 k (by decide) (by omega) (show _ < 6 by omega) (by omega) dX0_begin_41 ?_
  exact hret _ _ _ dX0_begin_42 rfl
set_option maxHeartbeats 4000000 in
theorem tX0_isPoint (l : Launch) (D : va_G) (dA : Bool → ClassId) (h : Nat) (q : Nat → Nat) (G : Nat → Nat → Int) (sc : List Int) (k : Nat) (i : Int) (hi : i = (k : Int)) (hk : k < 16) (b8 : inR (G 8 k)) (b9 : inR (G 9 k)) (b10 : inR (G 10 k)) (b11 : inR (G 11 k)) : XM l yX0_isPoint cX0_isPoint 2 (some .boolean) 0 D dA (xw 0 dA h q) [.ref h, vI i] (G, sc) (fun r u => ((r = 1 ∧ G 8 k = G 9 k ∧ G 10 k = G 11 k) ∨ (r = 0 ∧ ¬ (G 8 k = G 9 k ∧ G 10 k = G 11 k))) ∧ u = (G, sc)) := by
  refine XM.ofZ (by decide +kernel) (by simp [Value.category]) (Nat.le_of_ble_eq_true rfl) ?_
  intro X hX hret
  have hX : XOK l (xR 0) cX0_isPoint 2 (rmL 0) D dA (xw 0 dA h q) X := hX
  refine x_aload_n hX dX0_isPoint_0 rfl ?_
  refine x_getA hX (by decide) 8 (by decide) q43 dX0_isPoint_1 ?_
  refine x_iload_n hX dX0_isPoint_4 rfl ?_
  refine x_iald hX 8 k (by decide) (by omega) (show _ < 16 by omega) rfl dX0_isPoint_5 ?_
  refine x_aload_n hX dX0_isPoint_6 rfl ?_
  refine x_getA hX (by decide) 9 (by decide) q44 dX0_isPoint_7 ?_
  refine x_iload_n hX dX0_isPoint_10 rfl ?_
  refine x_iald hX 9 k (by decide) (by omega) (show _ < 16 by omega) rfl dX0_isPoint_11 ?_
  refine x_icmp_ne (tgt := 34) hX dX0_isPoint_12 (by decide) ⟨by omega, by omega⟩ ⟨by omega, by omega⟩ (fun c1 => ?_) (fun c1 => ?_)
  · refine x_iconst hX dX0_isPoint_34 ?_
    exact hret _ _ _ _ dX0_isPoint_35 (by decide) ⟨by omega, rfl⟩
  · refine x_aload_n hX dX0_isPoint_15 rfl ?_
    refine x_getA hX (by decide) 10 (by decide) q45 dX0_isPoint_16 ?_
    refine x_iload_n hX dX0_isPoint_19 rfl ?_
    refine x_iald hX 10 k (by decide) (by omega) (show _ < 16 by omega) rfl dX0_isPoint_20 ?_
    refine x_aload_n hX dX0_isPoint_21 rfl ?_
    refine x_getA hX (by decide) 11 (by decide) q46 dX0_isPoint_22 ?_
    refine x_iload_n hX dX0_isPoint_25 rfl ?_
    refine x_iald hX 11 k (by decide) (by omega) (show _ < 16 by omega) rfl dX0_isPoint_26 ?_
    refine x_icmp_ne (tgt := 34) hX dX0_isPoint_27 (by decide) ⟨by omega, by omega⟩ ⟨by omega, by omega⟩ (fun c2 => ?_) (fun c2 => ?_)
    · refine x_iconst hX dX0_isPoint_34 ?_
      exact hret _ _ _ _ dX0_isPoint_35 (by decide) ⟨by omega, rfl⟩
    · refine x_iconst hX dX0_isPoint_30 ?_
      refine x_goto (tgt := 35) hX dX0_isPoint_31 (by decide) ?_
      exact hret _ _ _ _ dX0_isPoint_35 (by decide) ⟨by omega, rfl⟩
set_option maxHeartbeats 4000000 in
theorem tX0_open (l : Launch) (D : va_G) (dA : Bool → ClassId) (h : Nat) (q : Nat → Nat) (G : Nat → Nat → Int) (wt bs : Int) (f s : Int) (hf : 0 ≤ f ∧ f ≤ 1023) (hs : 0 ≤ s ∧ s ≤ 1023) : XV l yX0_open cX0_open 3 0 D dA (xw 0 dA h q) [.ref h, vI f, vI s] (G, [wt, bs]) (fun u => u = (gu (gu (gu (gu G 8 0 (f / 32 - 16)) 9 0 (f % 32 - 16)) 10 0 (s / 32 - 16)) 11 0 (s % 32 - 16), [1, bs])) := by
  refine XV.of (by decide +kernel) (by simp [Value.category]) (Nat.le_of_ble_eq_true rfl) ?_
  intro X hX hret
  have hX : XOK l (xR 0) cX0_open 3 (rmL 0) D dA (xw 0 dA h q) X := hX
  refine x_aload_n hX dX0_open_0 rfl ?_
  refine x_getA hX (by decide) 8 (by decide) q43 dX0_open_1 ?_
  refine x_iconst hX dX0_open_4 ?_
  refine x_iload_n hX dX0_open_5 rfl ?_
  refine x_iconst hX dX0_open_6 ?_
  refine x_ishr (v := iI (f / 32)) hX dX0_open_7 (iI_shr5 ⟨by omega, by omega⟩) ?_
  refine x_bipush hX dX0_open_8 (by decide +kernel) ?_
  refine x_isub hX dX0_open_10 ?_
  refine x_iast hX 8 0 (by decide) (by omega) (show _ < 16 by omega) dX0_open_11 ?_
  refine x_aload_n hX dX0_open_12 rfl ?_
  refine x_getA hX (by decide) 9 (by decide) q44 dX0_open_13 ?_
  refine x_iconst hX dX0_open_16 ?_
  refine x_iload_n hX dX0_open_17 rfl ?_
  refine x_bipush hX dX0_open_18 (by decide +kernel) ?_
  refine x_iand (v := iI (f % 32)) hX dX0_open_20 (iI_and31 (by omega) (by omega)) ?_
  refine x_bipush hX dX0_open_21 (by decide +kernel) ?_
  refine x_isub hX dX0_open_23 ?_
  refine x_iast hX 9 0 (by decide) (by omega) (show _ < 16 by omega) dX0_open_24 ?_
  refine x_aload_n hX dX0_open_25 rfl ?_
  refine x_getA hX (by decide) 10 (by decide) q45 dX0_open_26 ?_
  refine x_iconst hX dX0_open_29 ?_
  refine x_iload_n hX dX0_open_30 rfl ?_
  refine x_iconst hX dX0_open_31 ?_
  refine x_ishr (v := iI (s / 32)) hX dX0_open_32 (iI_shr5 ⟨by omega, by omega⟩) ?_
  refine x_bipush hX dX0_open_33 (by decide +kernel) ?_
  refine x_isub hX dX0_open_35 ?_
  refine x_iast hX 10 0 (by decide) (by omega) (show _ < 16 by omega) dX0_open_36 ?_
  refine x_aload_n hX dX0_open_37 rfl ?_
  refine x_getA hX (by decide) 11 (by decide) q46 dX0_open_38 ?_
  refine x_iconst hX dX0_open_41 ?_
  refine x_iload_n hX dX0_open_42 rfl ?_
  refine x_bipush hX dX0_open_43 (by decide +kernel) ?_
  refine x_iand (v := iI (s % 32)) hX dX0_open_45 (iI_and31 (by omega) (by omega)) ?_
  refine x_bipush hX dX0_open_46 (by decide +kernel) ?_
  refine x_isub hX dX0_open_48 ?_
  refine x_iast hX 11 0 (by decide) (by omega) (show _ < 16 by omega) dX0_open_49 ?_
  refine x_aload_n hX dX0_open_50 rfl ?_
  refine x_iconst hX dX0_open_51 ?_
  refine x_putS (sc' := [1, bs]) hX (by decide) 0 rfl (by decide) rfl (by decide +kernel) q47 dX0_open_52 rfl ?_
  exact hret _ _ _ dX0_open_55 rfl
set_option maxHeartbeats 4000000 in
theorem tX0_cut (l : Launch) (D : va_G) (dA : Bool → ClassId) (h : Nat) (q : Nat → Nat) (G : Nat → Nat → Int) (wt bs : Int) (k : Nat) (i : Int) (hi : i = (k : Int)) (hk : k + 1 < 16) (b8 : -16 ≤ G 8 k ∧ G 8 k ≤ 16) (b9 : -16 ≤ G 9 k ∧ G 9 k ≤ 16) (b10 : -16 ≤ G 10 k ∧ G 10 k ≤ 16) (b11 : -16 ≤ G 11 k ∧ G 11 k ≤ 16) : XV l yX0_cut cX0_cut 6 0 D dA (xw 0 dA h q) [.ref h, vI i] (G, [wt, bs]) (fun u => (G 8 k < G 9 k ∧ u = (gu (gu (gu (gu (gu (gu G 8 (k + 1) (G 8 k)) 9 (k + 1) ((G 8 k + G 9 k) / 2)) 10 (k + 1) (G 10 k)) 11 (k + 1) (G 11 k)) 8 k ((G 8 k + G 9 k) / 2 + 1)) 10 k (G 10 k), [i + 2, bs])) ∨ (G 9 k ≤ G 8 k ∧ G 10 k = G 11 k ∧ u = (G, [wt, bs])) ∨ (G 9 k ≤ G 8 k ∧ G 10 k ≠ G 11 k ∧ u = (gu (gu (gu (gu (gu (gu G 8 (k + 1) (G 8 k)) 9 (k + 1) (G 9 k)) 10 (k + 1) (G 10 k)) 11 (k + 1) ((G 10 k + G 11 k) / 2)) 8 k (G 8 k)) 10 k ((G 10 k + G 11 k) / 2 + 1), [i + 2, bs]))) := by
  refine XV.of (by decide +kernel) (by simp [Value.category]) (Nat.le_of_ble_eq_true rfl) ?_
  intro X hX hret
  have hX : XOK l (xR 0) cX0_cut 6 (rmL 0) D dA (xw 0 dA h q) X := hX
  refine x_aload_n hX dX0_cut_0 rfl ?_
  refine x_getA hX (by decide) 8 (by decide) q43 dX0_cut_1 ?_
  refine x_iload_n hX dX0_cut_4 rfl ?_
  refine x_iald hX 8 k (by decide) (by omega) (show _ < 16 by omega) rfl dX0_cut_5 ?_
  refine x_aload_n hX dX0_cut_6 rfl ?_
  refine x_getA hX (by decide) 9 (by decide) q44 dX0_cut_7 ?_
  refine x_iload_n hX dX0_cut_10 rfl ?_
  refine x_iald hX 9 k (by decide) (by omega) (show _ < 16 by omega) rfl dX0_cut_11 ?_
  refine x_icmp_ge (tgt := 19) hX dX0_cut_12 (by decide) ⟨by omega, by omega⟩ ⟨by omega, by omega⟩ (fun c1 => ?_) (fun c1 => ?_)
  · refine x_iconst hX dX0_cut_19 ?_
    refine x_istore_n (vs' := [.ref h, vI i, vI 0]) hX dX0_cut_20 ⟨Nat.le_of_ble_eq_true rfl, Nat.le_of_ble_eq_true rfl⟩ rfl ?_
    refine x_iload_n hX dX0_cut_21 rfl ?_
    refine x_if_ne (tgt := 41) hX dX0_cut_22 (by decide) ⟨by omega, by omega⟩ (fun c2 => absurd c2 (by omega)) (fun c2 => ?_)
    refine x_aload_n hX dX0_cut_25 rfl ?_
    refine x_getA hX (by decide) 10 (by decide) q45 dX0_cut_26 ?_
    refine x_iload_n hX dX0_cut_29 rfl ?_
    refine x_iald hX 10 k (by decide) (by omega) (show _ < 16 by omega) rfl dX0_cut_30 ?_
    refine x_aload_n hX dX0_cut_31 rfl ?_
    refine x_getA hX (by decide) 11 (by decide) q46 dX0_cut_32 ?_
    refine x_iload_n hX dX0_cut_35 rfl ?_
    refine x_iald hX 11 k (by decide) (by omega) (show _ < 16 by omega) rfl dX0_cut_36 ?_
    refine x_icmp_ne (tgt := 41) hX dX0_cut_37 (by decide) ⟨by omega, by omega⟩ ⟨by omega, by omega⟩ (fun c3 => ?_) (fun c3 => ?_)
    · refine x_iload_n hX dX0_cut_41 rfl ?_
      refine x_if_eq (tgt := 54) hX dX0_cut_42 (by decide) ⟨by omega, by omega⟩ (fun c4 => ?_) (fun c4 => absurd c4 (by omega))
      refine x_aload_n hX dX0_cut_54 rfl ?_
      refine x_getA hX (by decide) 10 (by decide) q45 dX0_cut_55 ?_
      refine x_iload_n hX dX0_cut_58 rfl ?_
      refine x_iald hX 10 k (by decide) (by omega) (show _ < 16 by omega) rfl dX0_cut_59 ?_
      refine x_istore_n (vs' := [.ref h, vI i, vI 0, vI (G 10 k)]) hX dX0_cut_60 ⟨Nat.le_of_ble_eq_true rfl, Nat.le_of_ble_eq_true rfl⟩ rfl ?_
      refine x_iload_n hX dX0_cut_61 rfl ?_
      refine x_if_eq (tgt := 74) hX dX0_cut_62 (by decide) ⟨by omega, by omega⟩ (fun c5 => ?_) (fun c5 => absurd c5 (by omega))
      refine x_aload_n hX dX0_cut_74 rfl ?_
      refine x_getA hX (by decide) 11 (by decide) q46 dX0_cut_75 ?_
      refine x_iload_n hX dX0_cut_78 rfl ?_
      refine x_iald hX 11 k (by decide) (by omega) (show _ < 16 by omega) rfl dX0_cut_79 ?_
      refine x_istore (vs' := [.ref h, vI i, vI 0, vI (G 10 k), vI (G 11 k)]) hX dX0_cut_80 ⟨Nat.le_of_ble_eq_true rfl, Nat.le_of_ble_eq_true rfl⟩ rfl ?_
      refine x_iload_n hX dX0_cut_82 rfl ?_
      refine x_iload hX dX0_cut_83 rfl ?_
      refine x_iadd hX dX0_cut_85 ?_
      refine x_iconst hX dX0_cut_86 ?_
      refine x_ishr (v := iI (((G 10 k) + (G 11 k)) / 2)) hX dX0_cut_87 (iI_shr1 ⟨by omega, by omega⟩) ?_
      refine x_istore (vs' := [.ref h, vI i, vI 0, vI (G 10 k), vI (G 11 k), vI (((G 10 k) + (G 11 k)) / 2)]) hX dX0_cut_88 ⟨Nat.le_of_ble_eq_true rfl, Nat.le_of_ble_eq_true rfl⟩ rfl ?_
      refine x_aload_n hX dX0_cut_90 rfl ?_
      refine x_getA hX (by decide) 8 (by decide) q43 dX0_cut_91 ?_
      refine x_iload_n hX dX0_cut_94 rfl ?_
      refine x_iconst hX dX0_cut_95 ?_
      refine x_iadd hX dX0_cut_96 ?_
      refine x_aload_n hX dX0_cut_97 rfl ?_
      refine x_getA hX (by decide) 8 (by decide) q43 dX0_cut_98 ?_
      refine x_iload_n hX dX0_cut_101 rfl ?_
      refine x_iald hX 8 k (by decide) (by omega) (show _ < 16 by omega) rfl dX0_cut_102 ?_
      refine x_iast hX 8 (k + 1) (by decide) (by omega) (show _ < 16 by omega) dX0_cut_103 ?_
      refine x_aload_n hX dX0_cut_104 rfl ?_
      refine x_getA hX (by decide) 9 (by decide) q44 dX0_cut_105 ?_
      refine x_iload_n hX dX0_cut_108 rfl ?_
      refine x_iconst hX dX0_cut_109 ?_
      refine x_iadd hX dX0_cut_110 ?_
      refine x_iload_n hX dX0_cut_111 rfl ?_
      refine x_if_eq (tgt := 120) hX dX0_cut_112 (by decide) ⟨by omega, by omega⟩ (fun c6 => ?_) (fun c6 => absurd c6 (by omega))
      refine x_aload_n hX dX0_cut_120 rfl ?_
      refine x_getA hX (by decide) 9 (by decide) q44 dX0_cut_121 ?_
      refine x_iload_n hX dX0_cut_124 rfl ?_
      refine x_iald (v := G 9 k) hX 9 k (by decide) (by omega) (show _ < 16 by omega) (by simp [gu]) dX0_cut_125 ?_
      refine x_iast hX 9 (k + 1) (by decide) (by omega) (show _ < 16 by omega) dX0_cut_126 ?_
      refine x_aload_n hX dX0_cut_127 rfl ?_
      refine x_getA hX (by decide) 10 (by decide) q45 dX0_cut_128 ?_
      refine x_iload_n hX dX0_cut_131 rfl ?_
      refine x_iconst hX dX0_cut_132 ?_
      refine x_iadd hX dX0_cut_133 ?_
      refine x_aload_n hX dX0_cut_134 rfl ?_
      refine x_getA hX (by decide) 10 (by decide) q45 dX0_cut_135 ?_
      refine x_iload_n hX dX0_cut_138 rfl ?_
      refine x_iald (v := G 10 k) hX 10 k (by decide) (by omega) (show _ < 16 by omega) (by simp [gu]) dX0_cut_139 ?_
      refine x_iast hX 10 (k + 1) (by decide) (by omega) (show _ < 16 by omega) dX0_cut_140 ?_
      refine x_aload_n hX dX0_cut_141 rfl ?_
      refine x_getA hX (by decide) 11 (by decide) q46 dX0_cut_142 ?_
      refine x_iload_n hX dX0_cut_145 rfl ?_
      refine x_iconst hX dX0_cut_146 ?_
      refine x_iadd hX dX0_cut_147 ?_
      refine x_iload_n hX dX0_cut_148 rfl ?_
      refine x_if_eq (tgt := 161) hX dX0_cut_149 (by decide) ⟨by omega, by omega⟩ (fun c7 => ?_) (fun c7 => absurd c7 (by omega))
      refine x_iload hX dX0_cut_161 rfl ?_
      refine x_iast hX 11 (k + 1) (by decide) (by omega) (show _ < 16 by omega) dX0_cut_163 ?_
      refine x_aload_n hX dX0_cut_164 rfl ?_
      refine x_getA hX (by decide) 8 (by decide) q43 dX0_cut_165 ?_
      refine x_iload_n hX dX0_cut_168 rfl ?_
      refine x_iload_n hX dX0_cut_169 rfl ?_
      refine x_if_eq (tgt := 180) hX dX0_cut_170 (by decide) ⟨by omega, by omega⟩ (fun c8 => ?_) (fun c8 => absurd c8 (by omega))
      refine x_aload_n hX dX0_cut_180 rfl ?_
      refine x_getA hX (by decide) 8 (by decide) q43 dX0_cut_181 ?_
      refine x_iload_n hX dX0_cut_184 rfl ?_
      refine x_iald (v := G 8 k) hX 8 k (by decide) (by omega) (show _ < 16 by omega) (by simp [gu]) dX0_cut_185 ?_
      refine x_iast hX 8 k (by decide) (by omega) (show _ < 16 by omega) dX0_cut_186 ?_
      refine x_aload_n hX dX0_cut_187 rfl ?_
      refine x_getA hX (by decide) 10 (by decide) q45 dX0_cut_188 ?_
      refine x_iload_n hX dX0_cut_191 rfl ?_
      refine x_iload_n hX dX0_cut_192 rfl ?_
      refine x_if_eq (tgt := 205) hX dX0_cut_193 (by decide) ⟨by omega, by omega⟩ (fun c9 => ?_) (fun c9 => absurd c9 (by omega))
      refine x_iload hX dX0_cut_205 rfl ?_
      refine x_iconst hX dX0_cut_207 ?_
      refine x_iadd hX dX0_cut_208 ?_
      refine x_iast hX 10 k (by decide) (by omega) (show _ < 16 by omega) dX0_cut_209 ?_
      refine x_aload_n hX dX0_cut_210 rfl ?_
      refine x_iload_n hX dX0_cut_211 rfl ?_
      refine x_iconst hX dX0_cut_212 ?_
      refine x_iadd hX dX0_cut_213 ?_
      refine x_putS (sc' := [i + 2, bs]) hX (by decide) 0 rfl (by decide) rfl (by decide +kernel) q47 dX0_cut_214 rfl ?_
      exact hret _ _ _ dX0_cut_217 (by first | exact Or.inl ⟨by omega, rfl⟩ | exact Or.inr (Or.inl ⟨by omega, by omega, rfl⟩) | exact Or.inr (Or.inr ⟨by omega, by omega, rfl⟩))
    · exact hret _ _ _ dX0_cut_40 (by first | exact Or.inl ⟨by omega, rfl⟩ | exact Or.inr (Or.inl ⟨by omega, by omega, rfl⟩) | exact Or.inr (Or.inr ⟨by omega, by omega, rfl⟩))
  · refine x_iconst hX dX0_cut_15 ?_
    refine x_goto (tgt := 20) hX dX0_cut_16 (by decide) ?_
    refine x_istore_n (vs' := [.ref h, vI i, vI 1]) hX dX0_cut_20 ⟨Nat.le_of_ble_eq_true rfl, Nat.le_of_ble_eq_true rfl⟩ rfl ?_
    refine x_iload_n hX dX0_cut_21 rfl ?_
    refine x_if_ne (tgt := 41) hX dX0_cut_22 (by decide) ⟨by omega, by omega⟩ (fun c10 => ?_) (fun c10 => absurd c10 (by omega))
    refine x_iload_n hX dX0_cut_41 rfl ?_
    refine x_if_eq (tgt := 54) hX dX0_cut_42 (by decide) ⟨by omega, by omega⟩ (fun c11 => absurd c11 (by omega)) (fun c11 => ?_)
    refine x_aload_n hX dX0_cut_45 rfl ?_
    refine x_getA hX (by decide) 8 (by decide) q43 dX0_cut_46 ?_
    refine x_iload_n hX dX0_cut_49 rfl ?_
    refine x_iald hX 8 k (by decide) (by omega) (show _ < 16 by omega) rfl dX0_cut_50 ?_
    refine x_goto (tgt := 60) hX dX0_cut_51 (by decide) ?_
    refine x_istore_n (vs' := [.ref h, vI i, vI 1, vI (G 8 k)]) hX dX0_cut_60 ⟨Nat.le_of_ble_eq_true rfl, Nat.le_of_ble_eq_true rfl⟩ rfl ?_
    refine x_iload_n hX dX0_cut_61 rfl ?_
    refine x_if_eq (tgt := 74) hX dX0_cut_62 (by decide) ⟨by omega, by omega⟩ (fun c12 => absurd c12 (by omega)) (fun c12 => ?_)
    refine x_aload_n hX dX0_cut_65 rfl ?_
    refine x_getA hX (by decide) 9 (by decide) q44 dX0_cut_66 ?_
    refine x_iload_n hX dX0_cut_69 rfl ?_
    refine x_iald hX 9 k (by decide) (by omega) (show _ < 16 by omega) rfl dX0_cut_70 ?_
    refine x_goto (tgt := 80) hX dX0_cut_71 (by decide) ?_
    refine x_istore (vs' := [.ref h, vI i, vI 1, vI (G 8 k), vI (G 9 k)]) hX dX0_cut_80 ⟨Nat.le_of_ble_eq_true rfl, Nat.le_of_ble_eq_true rfl⟩ rfl ?_
    refine x_iload_n hX dX0_cut_82 rfl ?_
    refine x_iload hX dX0_cut_83 rfl ?_
    refine x_iadd hX dX0_cut_85 ?_
    refine x_iconst hX dX0_cut_86 ?_
    refine x_ishr (v := iI (((G 8 k) + (G 9 k)) / 2)) hX dX0_cut_87 (iI_shr1 ⟨by omega, by omega⟩) ?_
    refine x_istore (vs' := [.ref h, vI i, vI 1, vI (G 8 k), vI (G 9 k), vI (((G 8 k) + (G 9 k)) / 2)]) hX dX0_cut_88 ⟨Nat.le_of_ble_eq_true rfl, Nat.le_of_ble_eq_true rfl⟩ rfl ?_
    refine x_aload_n hX dX0_cut_90 rfl ?_
    refine x_getA hX (by decide) 8 (by decide) q43 dX0_cut_91 ?_
    refine x_iload_n hX dX0_cut_94 rfl ?_
    refine x_iconst hX dX0_cut_95 ?_
    refine x_iadd hX dX0_cut_96 ?_
    refine x_aload_n hX dX0_cut_97 rfl ?_
    refine x_getA hX (by decide) 8 (by decide) q43 dX0_cut_98 ?_
    refine x_iload_n hX dX0_cut_101 rfl ?_
    refine x_iald hX 8 k (by decide) (by omega) (show _ < 16 by omega) rfl dX0_cut_102 ?_
    refine x_iast hX 8 (k + 1) (by decide) (by omega) (show _ < 16 by omega) dX0_cut_103 ?_
    refine x_aload_n hX dX0_cut_104 rfl ?_
    refine x_getA hX (by decide) 9 (by decide) q44 dX0_cut_105 ?_
    refine x_iload_n hX dX0_cut_108 rfl ?_
    refine x_iconst hX dX0_cut_109 ?_
    refine x_iadd hX dX0_cut_110 ?_
    refine x_iload_n hX dX0_cut_111 rfl ?_
    refine x_if_eq (tgt := 120) hX dX0_cut_112 (by decide) ⟨by omega, by omega⟩ (fun c13 => absurd c13 (by omega)) (fun c13 => ?_)
    refine x_iload hX dX0_cut_115 rfl ?_
    refine x_goto (tgt := 126) hX dX0_cut_117 (by decide) ?_
    refine x_iast hX 9 (k + 1) (by decide) (by omega) (show _ < 16 by omega) dX0_cut_126 ?_
    refine x_aload_n hX dX0_cut_127 rfl ?_
    refine x_getA hX (by decide) 10 (by decide) q45 dX0_cut_128 ?_
    refine x_iload_n hX dX0_cut_131 rfl ?_
    refine x_iconst hX dX0_cut_132 ?_
    refine x_iadd hX dX0_cut_133 ?_
    refine x_aload_n hX dX0_cut_134 rfl ?_
    refine x_getA hX (by decide) 10 (by decide) q45 dX0_cut_135 ?_
    refine x_iload_n hX dX0_cut_138 rfl ?_
    refine x_iald (v := G 10 k) hX 10 k (by decide) (by omega) (show _ < 16 by omega) (by simp [gu]) dX0_cut_139 ?_
    refine x_iast hX 10 (k + 1) (by decide) (by omega) (show _ < 16 by omega) dX0_cut_140 ?_
    refine x_aload_n hX dX0_cut_141 rfl ?_
    refine x_getA hX (by decide) 11 (by decide) q46 dX0_cut_142 ?_
    refine x_iload_n hX dX0_cut_145 rfl ?_
    refine x_iconst hX dX0_cut_146 ?_
    refine x_iadd hX dX0_cut_147 ?_
    refine x_iload_n hX dX0_cut_148 rfl ?_
    refine x_if_eq (tgt := 161) hX dX0_cut_149 (by decide) ⟨by omega, by omega⟩ (fun c14 => absurd c14 (by omega)) (fun c14 => ?_)
    refine x_aload_n hX dX0_cut_152 rfl ?_
    refine x_getA hX (by decide) 11 (by decide) q46 dX0_cut_153 ?_
    refine x_iload_n hX dX0_cut_156 rfl ?_
    refine x_iald (v := G 11 k) hX 11 k (by decide) (by omega) (show _ < 16 by omega) (by simp [gu]) dX0_cut_157 ?_
    refine x_goto (tgt := 163) hX dX0_cut_158 (by decide) ?_
    refine x_iast hX 11 (k + 1) (by decide) (by omega) (show _ < 16 by omega) dX0_cut_163 ?_
    refine x_aload_n hX dX0_cut_164 rfl ?_
    refine x_getA hX (by decide) 8 (by decide) q43 dX0_cut_165 ?_
    refine x_iload_n hX dX0_cut_168 rfl ?_
    refine x_iload_n hX dX0_cut_169 rfl ?_
    refine x_if_eq (tgt := 180) hX dX0_cut_170 (by decide) ⟨by omega, by omega⟩ (fun c15 => absurd c15 (by omega)) (fun c15 => ?_)
    refine x_iload hX dX0_cut_173 rfl ?_
    refine x_iconst hX dX0_cut_175 ?_
    refine x_iadd hX dX0_cut_176 ?_
    refine x_goto (tgt := 186) hX dX0_cut_177 (by decide) ?_
    refine x_iast hX 8 k (by decide) (by omega) (show _ < 16 by omega) dX0_cut_186 ?_
    refine x_aload_n hX dX0_cut_187 rfl ?_
    refine x_getA hX (by decide) 10 (by decide) q45 dX0_cut_188 ?_
    refine x_iload_n hX dX0_cut_191 rfl ?_
    refine x_iload_n hX dX0_cut_192 rfl ?_
    refine x_if_eq (tgt := 205) hX dX0_cut_193 (by decide) ⟨by omega, by omega⟩ (fun c16 => absurd c16 (by omega)) (fun c16 => ?_)
    refine x_aload_n hX dX0_cut_196 rfl ?_
    refine x_getA hX (by decide) 10 (by decide) q45 dX0_cut_197 ?_
    refine x_iload_n hX dX0_cut_200 rfl ?_
    refine x_iald (v := G 10 k) hX 10 k (by decide) (by omega) (show _ < 16 by omega) (by simp [gu]) dX0_cut_201 ?_
    refine x_goto (tgt := 209) hX dX0_cut_202 (by decide) ?_
    refine x_iast hX 10 k (by decide) (by omega) (show _ < 16 by omega) dX0_cut_209 ?_
    refine x_aload_n hX dX0_cut_210 rfl ?_
    refine x_iload_n hX dX0_cut_211 rfl ?_
    refine x_iconst hX dX0_cut_212 ?_
    refine x_iadd hX dX0_cut_213 ?_
    refine x_putS (sc' := [i + 2, bs]) hX (by decide) 0 rfl (by decide) rfl (by decide +kernel) q47 dX0_cut_214 rfl ?_
    exact hret _ _ _ dX0_cut_217 (by first | exact Or.inl ⟨by omega, rfl⟩ | exact Or.inr (Or.inl ⟨by omega, by omega, rfl⟩) | exact Or.inr (Or.inr ⟨by omega, by omega, rfl⟩))
set_option maxHeartbeats 4000000 in
theorem tX0_bring (l : Launch) (D : va_G) (dA : Bool → ClassId) (h : Nat) (q : Nat → Nat) (G : Nat → Nat → Int) (sc : List Int) (k j : Nat) (i i2 f : Int) (hi : i = (k : Int)) (hk : k < 6) (hi2 : i2 = (j : Int)) (hj : j < 6) (hne : j ≠ k) (bf : inR f) (b2 : inR (G 2 j)) (b3 : inR (G 3 j)) (b7 : inR (G 7 j)) : XV l yX0_bring cX0_bring 6 0 D dA (xw 0 dA h q) [.ref h, vI i, vI i2, vI f] (G, sc) (fun u => ((f = 0 ∨ G 3 j ≤ 0) ∧ u = (G, sc)) ∨ (f ≠ 0 ∧ 0 < G 3 j ∧ G 7 j ≠ 0 ∧ 0 ≤ G 2 j ∧ u = (gu (gu (gu G 4 k (G 4 k + f * G 4 j)) 5 k (G 5 k + f * G 5 j)) 6 k (G 6 k + f * G 6 j), sc)) ∨ (f ≠ 0 ∧ 0 < G 3 j ∧ (G 7 j = 0 ∨ G 2 j < 0) ∧ u = (gu (gu (gu G 2 k (G 2 k + mnL f (cl (G 2 j)) (G 3 j))) 3 k (G 3 k + mxL f (cl (G 2 j)) (G 3 j))) 7 k 0, sc))) := by
  refine XV.of (by decide +kernel) (by simp [Value.category]) (Nat.le_of_ble_eq_true rfl) ?_
  intro X hX hret
  have hX : XOK l (xR 0) cX0_bring 6 (rmL 0) D dA (xw 0 dA h q) X := hX
  refine x_iload_n hX dX0_bring_0 rfl ?_
  refine x_if_eq (tgt := 13) hX dX0_bring_1 (by decide) ⟨by omega, by omega⟩ (fun c1 => ?_) (fun c1 => ?_)
  · exact hret _ _ _ dX0_bring_13 (by first | exact Or.inl ⟨by omega, rfl⟩ | exact Or.inr (Or.inl ⟨by omega, by omega, by omega, by omega, rfl⟩) | exact Or.inr (Or.inr ⟨by omega, by omega, by omega, by first | rw [mnL_p (by assumption), mxL_p (by assumption), cl_p (by assumption)] | rw [mnL_p (by assumption), mxL_p (by assumption), cl_n (by assumption)] | rw [mnL_n (by omega), mxL_n (by omega), cl_p (by assumption)] | rw [mnL_n (by omega), mxL_n (by omega), cl_n (by assumption)]⟩))
  · refine x_aload_n hX dX0_bring_4 rfl ?_
    refine x_getA hX (by decide) 3 (by decide) q38 dX0_bring_5 ?_
    refine x_iload_n hX dX0_bring_8 rfl ?_
    refine x_iald hX 3 j (by decide) (by omega) (show _ < 6 by omega) rfl dX0_bring_9 ?_
    refine x_if_gt (tgt := 14) hX dX0_bring_10 (by decide) ⟨by omega, by omega⟩ (fun c2 => ?_) (fun c2 => ?_)
    · refine x_aload_n hX dX0_bring_14 rfl ?_
      refine x_getA hX (by decide) 7 (by decide) q42 dX0_bring_15 ?_
      refine x_iload_n hX dX0_bring_18 rfl ?_
      refine x_zald hX 7 j (by decide) (by omega) (show _ < 6 by omega) rfl dX0_bring_19 ?_
      refine x_if_eq (tgt := 84) hX dX0_bring_20 (by decide) ⟨by omega, by omega⟩ (fun c3 => ?_) (fun c3 => ?_)
      · refine x_aload_n hX dX0_bring_84 rfl ?_
        refine x_getA hX (by decide) 2 (by decide) q37 dX0_bring_85 ?_
        refine x_iload_n hX dX0_bring_88 rfl ?_
        refine x_iald hX 2 j (by decide) (by omega) (show _ < 6 by omega) rfl dX0_bring_89 ?_
        refine x_if_le (tgt := 102) hX dX0_bring_90 (by decide) ⟨by omega, by omega⟩ (fun c4 => ?_) (fun c4 => ?_)
        · refine x_iconst hX dX0_bring_102 ?_
          refine x_istore (vs' := [.ref h, vI i, vI i2, vI f, vI 0]) hX dX0_bring_103 ⟨Nat.le_of_ble_eq_true rfl, Nat.le_of_ble_eq_true rfl⟩ rfl ?_
          refine x_aload_n hX dX0_bring_105 rfl ?_
          refine x_getA hX (by decide) 3 (by decide) q38 dX0_bring_106 ?_
          refine x_iload_n hX dX0_bring_109 rfl ?_
          refine x_iald hX 3 j (by decide) (by omega) (show _ < 6 by omega) rfl dX0_bring_110 ?_
          refine x_istore (vs' := [.ref h, vI i, vI i2, vI f, vI 0, vI (G 3 j)]) hX dX0_bring_111 ⟨Nat.le_of_ble_eq_true rfl, Nat.le_of_ble_eq_true rfl⟩ rfl ?_
          refine x_aload_n hX dX0_bring_113 rfl ?_
          refine x_getA hX (by decide) 2 (by decide) q37 dX0_bring_114 ?_
          refine x_iload_n hX dX0_bring_117 rfl ?_
          refine x_dup2 hX dX0_bring_118 rfl rfl ?_
          refine x_iald hX 2 k (by decide) (by omega) (show _ < 6 by omega) rfl dX0_bring_119 ?_
          refine x_iload_n hX dX0_bring_120 rfl ?_
          refine x_if_le (tgt := 131) hX dX0_bring_121 (by decide) ⟨by omega, by omega⟩ (fun c5 => ?_) (fun c5 => ?_)
          · refine x_iload_n hX dX0_bring_131 rfl ?_
            refine x_iload hX dX0_bring_132 rfl ?_
            refine x_imul hX dX0_bring_134 ?_
            refine x_iadd hX dX0_bring_135 ?_
            refine x_iast hX 2 k (by decide) (by omega) (show _ < 6 by omega) dX0_bring_136 ?_
            refine x_aload_n hX dX0_bring_137 rfl ?_
            refine x_getA hX (by decide) 3 (by decide) q38 dX0_bring_138 ?_
            refine x_iload_n hX dX0_bring_141 rfl ?_
            refine x_dup2 hX dX0_bring_142 rfl rfl ?_
            refine x_iald (v := G 3 k) hX 3 k (by decide) (by omega) (show _ < 6 by omega) (by simp [gu, hne, Ne.symm hne]) dX0_bring_143 ?_
            refine x_iload_n hX dX0_bring_144 rfl ?_
            refine x_if_le (tgt := 155) hX dX0_bring_145 (by decide) ⟨by omega, by omega⟩ (fun c6 => ?_) (fun c6 => absurd c6 (by omega))
            refine x_iload_n hX dX0_bring_155 rfl ?_
            refine x_iload hX dX0_bring_156 rfl ?_
            refine x_imul hX dX0_bring_158 ?_
            refine x_iadd hX dX0_bring_159 ?_
            refine x_iast hX 3 k (by decide) (by omega) (show _ < 6 by omega) dX0_bring_160 ?_
            refine x_aload_n hX dX0_bring_161 rfl ?_
            refine x_getA hX (by decide) 7 (by decide) q42 dX0_bring_162 ?_
            refine x_iload_n hX dX0_bring_165 rfl ?_
            refine x_iconst hX dX0_bring_166 ?_
            refine x_zast hX 7 k (by decide) (by omega) (show _ < 6 by omega) (by omega) dX0_bring_167 ?_
            exact hret _ _ _ dX0_bring_168 (by first | exact Or.inl ⟨by omega, rfl⟩ | exact Or.inr (Or.inl ⟨by omega, by omega, by omega, by omega, rfl⟩) | exact Or.inr (Or.inr ⟨by omega, by omega, by omega, by first | rw [mnL_p (by assumption), mxL_p (by assumption), cl_p (by assumption)] | rw [mnL_p (by assumption), mxL_p (by assumption), cl_n (by assumption)] | rw [mnL_n (by omega), mxL_n (by omega), cl_p (by assumption)] | rw [mnL_n (by omega), mxL_n (by omega), cl_n (by assumption)]⟩))
          · refine x_iload_n hX dX0_bring_124 rfl ?_
            refine x_iload hX dX0_bring_125 rfl ?_
            refine x_imul hX dX0_bring_127 ?_
            refine x_goto (tgt := 135) hX dX0_bring_128 (by decide) ?_
            refine x_iadd hX dX0_bring_135 ?_
            refine x_iast hX 2 k (by decide) (by omega) (show _ < 6 by omega) dX0_bring_136 ?_
            refine x_aload_n hX dX0_bring_137 rfl ?_
            refine x_getA hX (by decide) 3 (by decide) q38 dX0_bring_138 ?_
            refine x_iload_n hX dX0_bring_141 rfl ?_
            refine x_dup2 hX dX0_bring_142 rfl rfl ?_
            refine x_iald (v := G 3 k) hX 3 k (by decide) (by omega) (show _ < 6 by omega) (by simp [gu, hne, Ne.symm hne]) dX0_bring_143 ?_
            refine x_iload_n hX dX0_bring_144 rfl ?_
            refine x_if_le (tgt := 155) hX dX0_bring_145 (by decide) ⟨by omega, by omega⟩ (fun c7 => absurd c7 (by omega)) (fun c7 => ?_)
            refine x_iload_n hX dX0_bring_148 rfl ?_
            refine x_iload hX dX0_bring_149 rfl ?_
            refine x_imul hX dX0_bring_151 ?_
            refine x_goto (tgt := 159) hX dX0_bring_152 (by decide) ?_
            refine x_iadd hX dX0_bring_159 ?_
            refine x_iast hX 3 k (by decide) (by omega) (show _ < 6 by omega) dX0_bring_160 ?_
            refine x_aload_n hX dX0_bring_161 rfl ?_
            refine x_getA hX (by decide) 7 (by decide) q42 dX0_bring_162 ?_
            refine x_iload_n hX dX0_bring_165 rfl ?_
            refine x_iconst hX dX0_bring_166 ?_
            refine x_zast hX 7 k (by decide) (by omega) (show _ < 6 by omega) (by omega) dX0_bring_167 ?_
            exact hret _ _ _ dX0_bring_168 (by first | exact Or.inl ⟨by omega, rfl⟩ | exact Or.inr (Or.inl ⟨by omega, by omega, by omega, by omega, rfl⟩) | exact Or.inr (Or.inr ⟨by omega, by omega, by omega, by first | rw [mnL_p (by assumption), mxL_p (by assumption), cl_p (by assumption)] | rw [mnL_p (by assumption), mxL_p (by assumption), cl_n (by assumption)] | rw [mnL_n (by omega), mxL_n (by omega), cl_p (by assumption)] | rw [mnL_n (by omega), mxL_n (by omega), cl_n (by assumption)]⟩))
        · refine x_aload_n hX dX0_bring_93 rfl ?_
          refine x_getA hX (by decide) 2 (by decide) q37 dX0_bring_94 ?_
          refine x_iload_n hX dX0_bring_97 rfl ?_
          refine x_iald hX 2 j (by decide) (by omega) (show _ < 6 by omega) rfl dX0_bring_98 ?_
          refine x_goto (tgt := 103) hX dX0_bring_99 (by decide) ?_
          refine x_istore (vs' := [.ref h, vI i, vI i2, vI f, vI (G 2 j)]) hX dX0_bring_103 ⟨Nat.le_of_ble_eq_true rfl, Nat.le_of_ble_eq_true rfl⟩ rfl ?_
          refine x_aload_n hX dX0_bring_105 rfl ?_
          refine x_getA hX (by decide) 3 (by decide) q38 dX0_bring_106 ?_
          refine x_iload_n hX dX0_bring_109 rfl ?_
          refine x_iald hX 3 j (by decide) (by omega) (show _ < 6 by omega) rfl dX0_bring_110 ?_
          refine x_istore (vs' := [.ref h, vI i, vI i2, vI f, vI (G 2 j), vI (G 3 j)]) hX dX0_bring_111 ⟨Nat.le_of_ble_eq_true rfl, Nat.le_of_ble_eq_true rfl⟩ rfl ?_
          refine x_aload_n hX dX0_bring_113 rfl ?_
          refine x_getA hX (by decide) 2 (by decide) q37 dX0_bring_114 ?_
          refine x_iload_n hX dX0_bring_117 rfl ?_
          refine x_dup2 hX dX0_bring_118 rfl rfl ?_
          refine x_iald hX 2 k (by decide) (by omega) (show _ < 6 by omega) rfl dX0_bring_119 ?_
          refine x_iload_n hX dX0_bring_120 rfl ?_
          refine x_if_le (tgt := 131) hX dX0_bring_121 (by decide) ⟨by omega, by omega⟩ (fun c8 => ?_) (fun c8 => ?_)
          · refine x_iload_n hX dX0_bring_131 rfl ?_
            refine x_iload hX dX0_bring_132 rfl ?_
            refine x_imul hX dX0_bring_134 ?_
            refine x_iadd hX dX0_bring_135 ?_
            refine x_iast hX 2 k (by decide) (by omega) (show _ < 6 by omega) dX0_bring_136 ?_
            refine x_aload_n hX dX0_bring_137 rfl ?_
            refine x_getA hX (by decide) 3 (by decide) q38 dX0_bring_138 ?_
            refine x_iload_n hX dX0_bring_141 rfl ?_
            refine x_dup2 hX dX0_bring_142 rfl rfl ?_
            refine x_iald (v := G 3 k) hX 3 k (by decide) (by omega) (show _ < 6 by omega) (by simp [gu, hne, Ne.symm hne]) dX0_bring_143 ?_
            refine x_iload_n hX dX0_bring_144 rfl ?_
            refine x_if_le (tgt := 155) hX dX0_bring_145 (by decide) ⟨by omega, by omega⟩ (fun c9 => ?_) (fun c9 => absurd c9 (by omega))
            refine x_iload_n hX dX0_bring_155 rfl ?_
            refine x_iload hX dX0_bring_156 rfl ?_
            refine x_imul hX dX0_bring_158 ?_
            refine x_iadd hX dX0_bring_159 ?_
            refine x_iast hX 3 k (by decide) (by omega) (show _ < 6 by omega) dX0_bring_160 ?_
            refine x_aload_n hX dX0_bring_161 rfl ?_
            refine x_getA hX (by decide) 7 (by decide) q42 dX0_bring_162 ?_
            refine x_iload_n hX dX0_bring_165 rfl ?_
            refine x_iconst hX dX0_bring_166 ?_
            refine x_zast hX 7 k (by decide) (by omega) (show _ < 6 by omega) (by omega) dX0_bring_167 ?_
            exact hret _ _ _ dX0_bring_168 (by first | exact Or.inl ⟨by omega, rfl⟩ | exact Or.inr (Or.inl ⟨by omega, by omega, by omega, by omega, rfl⟩) | exact Or.inr (Or.inr ⟨by omega, by omega, by omega, by first | rw [mnL_p (by assumption), mxL_p (by assumption), cl_p (by assumption)] | rw [mnL_p (by assumption), mxL_p (by assumption), cl_n (by assumption)] | rw [mnL_n (by omega), mxL_n (by omega), cl_p (by assumption)] | rw [mnL_n (by omega), mxL_n (by omega), cl_n (by assumption)]⟩))
          · refine x_iload_n hX dX0_bring_124 rfl ?_
            refine x_iload hX dX0_bring_125 rfl ?_
            refine x_imul hX dX0_bring_127 ?_
            refine x_goto (tgt := 135) hX dX0_bring_128 (by decide) ?_
            refine x_iadd hX dX0_bring_135 ?_
            refine x_iast hX 2 k (by decide) (by omega) (show _ < 6 by omega) dX0_bring_136 ?_
            refine x_aload_n hX dX0_bring_137 rfl ?_
            refine x_getA hX (by decide) 3 (by decide) q38 dX0_bring_138 ?_
            refine x_iload_n hX dX0_bring_141 rfl ?_
            refine x_dup2 hX dX0_bring_142 rfl rfl ?_
            refine x_iald (v := G 3 k) hX 3 k (by decide) (by omega) (show _ < 6 by omega) (by simp [gu, hne, Ne.symm hne]) dX0_bring_143 ?_
            refine x_iload_n hX dX0_bring_144 rfl ?_
            refine x_if_le (tgt := 155) hX dX0_bring_145 (by decide) ⟨by omega, by omega⟩ (fun c10 => absurd c10 (by omega)) (fun c10 => ?_)
            refine x_iload_n hX dX0_bring_148 rfl ?_
            refine x_iload hX dX0_bring_149 rfl ?_
            refine x_imul hX dX0_bring_151 ?_
            refine x_goto (tgt := 159) hX dX0_bring_152 (by decide) ?_
            refine x_iadd hX dX0_bring_159 ?_
            refine x_iast hX 3 k (by decide) (by omega) (show _ < 6 by omega) dX0_bring_160 ?_
            refine x_aload_n hX dX0_bring_161 rfl ?_
            refine x_getA hX (by decide) 7 (by decide) q42 dX0_bring_162 ?_
            refine x_iload_n hX dX0_bring_165 rfl ?_
            refine x_iconst hX dX0_bring_166 ?_
            refine x_zast hX 7 k (by decide) (by omega) (show _ < 6 by omega) (by omega) dX0_bring_167 ?_
            exact hret _ _ _ dX0_bring_168 (by first | exact Or.inl ⟨by omega, rfl⟩ | exact Or.inr (Or.inl ⟨by omega, by omega, by omega, by omega, rfl⟩) | exact Or.inr (Or.inr ⟨by omega, by omega, by omega, by first | rw [mnL_p (by assumption), mxL_p (by assumption), cl_p (by assumption)] | rw [mnL_p (by assumption), mxL_p (by assumption), cl_n (by assumption)] | rw [mnL_n (by omega), mxL_n (by omega), cl_p (by assumption)] | rw [mnL_n (by omega), mxL_n (by omega), cl_n (by assumption)]⟩))
      · refine x_aload_n hX dX0_bring_23 rfl ?_
        refine x_getA hX (by decide) 2 (by decide) q37 dX0_bring_24 ?_
        refine x_iload_n hX dX0_bring_27 rfl ?_
        refine x_iald hX 2 j (by decide) (by omega) (show _ < 6 by omega) rfl dX0_bring_28 ?_
        refine x_if_lt (tgt := 84) hX dX0_bring_29 (by decide) ⟨by omega, by omega⟩ (fun c11 => ?_) (fun c11 => ?_)
        · refine x_aload_n hX dX0_bring_84 rfl ?_
          refine x_getA hX (by decide) 2 (by decide) q37 dX0_bring_85 ?_
          refine x_iload_n hX dX0_bring_88 rfl ?_
          refine x_iald hX 2 j (by decide) (by omega) (show _ < 6 by omega) rfl dX0_bring_89 ?_
          refine x_if_le (tgt := 102) hX dX0_bring_90 (by decide) ⟨by omega, by omega⟩ (fun c12 => ?_) (fun c12 => absurd c12 (by omega))
          refine x_iconst hX dX0_bring_102 ?_
          refine x_istore (vs' := [.ref h, vI i, vI i2, vI f, vI 0]) hX dX0_bring_103 ⟨Nat.le_of_ble_eq_true rfl, Nat.le_of_ble_eq_true rfl⟩ rfl ?_
          refine x_aload_n hX dX0_bring_105 rfl ?_
          refine x_getA hX (by decide) 3 (by decide) q38 dX0_bring_106 ?_
          refine x_iload_n hX dX0_bring_109 rfl ?_
          refine x_iald hX 3 j (by decide) (by omega) (show _ < 6 by omega) rfl dX0_bring_110 ?_
          refine x_istore (vs' := [.ref h, vI i, vI i2, vI f, vI 0, vI (G 3 j)]) hX dX0_bring_111 ⟨Nat.le_of_ble_eq_true rfl, Nat.le_of_ble_eq_true rfl⟩ rfl ?_
          refine x_aload_n hX dX0_bring_113 rfl ?_
          refine x_getA hX (by decide) 2 (by decide) q37 dX0_bring_114 ?_
          refine x_iload_n hX dX0_bring_117 rfl ?_
          refine x_dup2 hX dX0_bring_118 rfl rfl ?_
          refine x_iald hX 2 k (by decide) (by omega) (show _ < 6 by omega) rfl dX0_bring_119 ?_
          refine x_iload_n hX dX0_bring_120 rfl ?_
          refine x_if_le (tgt := 131) hX dX0_bring_121 (by decide) ⟨by omega, by omega⟩ (fun c13 => ?_) (fun c13 => ?_)
          · refine x_iload_n hX dX0_bring_131 rfl ?_
            refine x_iload hX dX0_bring_132 rfl ?_
            refine x_imul hX dX0_bring_134 ?_
            refine x_iadd hX dX0_bring_135 ?_
            refine x_iast hX 2 k (by decide) (by omega) (show _ < 6 by omega) dX0_bring_136 ?_
            refine x_aload_n hX dX0_bring_137 rfl ?_
            refine x_getA hX (by decide) 3 (by decide) q38 dX0_bring_138 ?_
            refine x_iload_n hX dX0_bring_141 rfl ?_
            refine x_dup2 hX dX0_bring_142 rfl rfl ?_
            refine x_iald (v := G 3 k) hX 3 k (by decide) (by omega) (show _ < 6 by omega) (by simp [gu, hne, Ne.symm hne]) dX0_bring_143 ?_
            refine x_iload_n hX dX0_bring_144 rfl ?_
            refine x_if_le (tgt := 155) hX dX0_bring_145 (by decide) ⟨by omega, by omega⟩ (fun c14 => ?_) (fun c14 => absurd c14 (by omega))
            refine x_iload_n hX dX0_bring_155 rfl ?_
            refine x_iload hX dX0_bring_156 rfl ?_
            refine x_imul hX dX0_bring_158 ?_
            refine x_iadd hX dX0_bring_159 ?_
            refine x_iast hX 3 k (by decide) (by omega) (show _ < 6 by omega) dX0_bring_160 ?_
            refine x_aload_n hX dX0_bring_161 rfl ?_
            refine x_getA hX (by decide) 7 (by decide) q42 dX0_bring_162 ?_
            refine x_iload_n hX dX0_bring_165 rfl ?_
            refine x_iconst hX dX0_bring_166 ?_
            refine x_zast hX 7 k (by decide) (by omega) (show _ < 6 by omega) (by omega) dX0_bring_167 ?_
            exact hret _ _ _ dX0_bring_168 (by first | exact Or.inl ⟨by omega, rfl⟩ | exact Or.inr (Or.inl ⟨by omega, by omega, by omega, by omega, rfl⟩) | exact Or.inr (Or.inr ⟨by omega, by omega, by omega, by first | rw [mnL_p (by assumption), mxL_p (by assumption), cl_p (by assumption)] | rw [mnL_p (by assumption), mxL_p (by assumption), cl_n (by assumption)] | rw [mnL_n (by omega), mxL_n (by omega), cl_p (by assumption)] | rw [mnL_n (by omega), mxL_n (by omega), cl_n (by assumption)]⟩))
          · refine x_iload_n hX dX0_bring_124 rfl ?_
            refine x_iload hX dX0_bring_125 rfl ?_
            refine x_imul hX dX0_bring_127 ?_
            refine x_goto (tgt := 135) hX dX0_bring_128 (by decide) ?_
            refine x_iadd hX dX0_bring_135 ?_
            refine x_iast hX 2 k (by decide) (by omega) (show _ < 6 by omega) dX0_bring_136 ?_
            refine x_aload_n hX dX0_bring_137 rfl ?_
            refine x_getA hX (by decide) 3 (by decide) q38 dX0_bring_138 ?_
            refine x_iload_n hX dX0_bring_141 rfl ?_
            refine x_dup2 hX dX0_bring_142 rfl rfl ?_
            refine x_iald (v := G 3 k) hX 3 k (by decide) (by omega) (show _ < 6 by omega) (by simp [gu, hne, Ne.symm hne]) dX0_bring_143 ?_
            refine x_iload_n hX dX0_bring_144 rfl ?_
            refine x_if_le (tgt := 155) hX dX0_bring_145 (by decide) ⟨by omega, by omega⟩ (fun c15 => absurd c15 (by omega)) (fun c15 => ?_)
            refine x_iload_n hX dX0_bring_148 rfl ?_
            refine x_iload hX dX0_bring_149 rfl ?_
            refine x_imul hX dX0_bring_151 ?_
            refine x_goto (tgt := 159) hX dX0_bring_152 (by decide) ?_
            refine x_iadd hX dX0_bring_159 ?_
            refine x_iast hX 3 k (by decide) (by omega) (show _ < 6 by omega) dX0_bring_160 ?_
            refine x_aload_n hX dX0_bring_161 rfl ?_
            refine x_getA hX (by decide) 7 (by decide) q42 dX0_bring_162 ?_
            refine x_iload_n hX dX0_bring_165 rfl ?_
            refine x_iconst hX dX0_bring_166 ?_
            refine x_zast hX 7 k (by decide) (by omega) (show _ < 6 by omega) (by omega) dX0_bring_167 ?_
            exact hret _ _ _ dX0_bring_168 (by first | exact Or.inl ⟨by omega, rfl⟩ | exact Or.inr (Or.inl ⟨by omega, by omega, by omega, by omega, rfl⟩) | exact Or.inr (Or.inr ⟨by omega, by omega, by omega, by first | rw [mnL_p (by assumption), mxL_p (by assumption), cl_p (by assumption)] | rw [mnL_p (by assumption), mxL_p (by assumption), cl_n (by assumption)] | rw [mnL_n (by omega), mxL_n (by omega), cl_p (by assumption)] | rw [mnL_n (by omega), mxL_n (by omega), cl_n (by assumption)]⟩))
        · refine x_aload_n hX dX0_bring_32 rfl ?_
          refine x_getA hX (by decide) 4 (by decide) q39 dX0_bring_33 ?_
          refine x_iload_n hX dX0_bring_36 rfl ?_
          refine x_dup2 hX dX0_bring_37 rfl rfl ?_
          refine x_iald hX 4 k (by decide) (by omega) (show _ < 6 by omega) rfl dX0_bring_38 ?_
          refine x_iload_n hX dX0_bring_39 rfl ?_
          refine x_aload_n hX dX0_bring_40 rfl ?_
          refine x_getA hX (by decide) 4 (by decide) q39 dX0_bring_41 ?_
          refine x_iload_n hX dX0_bring_44 rfl ?_
          refine x_iald hX 4 j (by decide) (by omega) (show _ < 6 by omega) rfl dX0_bring_45 ?_
          refine x_imul hX dX0_bring_46 ?_
          refine x_iadd hX dX0_bring_47 ?_
          refine x_iast hX 4 k (by decide) (by omega) (show _ < 6 by omega) dX0_bring_48 ?_
          refine x_aload_n hX dX0_bring_49 rfl ?_
          refine x_getA hX (by decide) 5 (by decide) q40 dX0_bring_50 ?_
          refine x_iload_n hX dX0_bring_53 rfl ?_
          refine x_dup2 hX dX0_bring_54 rfl rfl ?_
          refine x_iald (v := G 5 k) hX 5 k (by decide) (by omega) (show _ < 6 by omega) (by simp [gu, hne, Ne.symm hne]) dX0_bring_55 ?_
          refine x_iload_n hX dX0_bring_56 rfl ?_
          refine x_aload_n hX dX0_bring_57 rfl ?_
          refine x_getA hX (by decide) 5 (by decide) q40 dX0_bring_58 ?_
          refine x_iload_n hX dX0_bring_61 rfl ?_
          refine x_iald (v := G 5 j) hX 5 j (by decide) (by omega) (show _ < 6 by omega) (by simp [gu, hne, Ne.symm hne]) dX0_bring_62 ?_
          refine x_imul hX dX0_bring_63 ?_
          refine x_iadd hX dX0_bring_64 ?_
          refine x_iast hX 5 k (by decide) (by omega) (show _ < 6 by omega) dX0_bring_65 ?_
          refine x_aload_n hX dX0_bring_66 rfl ?_
          refine x_getA hX (by decide) 6 (by decide) q41 dX0_bring_67 ?_
          refine x_iload_n hX dX0_bring_70 rfl ?_
          refine x_dup2 hX dX0_bring_71 rfl rfl ?_
          refine x_iald (v := G 6 k) hX 6 k (by decide) (by omega) (show _ < 6 by omega) (by simp [gu, hne, Ne.symm hne]) dX0_bring_72 ?_
          refine x_iload_n hX dX0_bring_73 rfl ?_
          refine x_aload_n hX dX0_bring_74 rfl ?_
          refine x_getA hX (by decide) 6 (by decide) q41 dX0_bring_75 ?_
          refine x_iload_n hX dX0_bring_78 rfl ?_
          refine x_iald (v := G 6 j) hX 6 j (by decide) (by omega) (show _ < 6 by omega) (by simp [gu, hne, Ne.symm hne]) dX0_bring_79 ?_
          refine x_imul hX dX0_bring_80 ?_
          refine x_iadd hX dX0_bring_81 ?_
          refine x_iast hX 6 k (by decide) (by omega) (show _ < 6 by omega) dX0_bring_82 ?_
          exact hret _ _ _ dX0_bring_83 (by first | exact Or.inl ⟨by omega, rfl⟩ | exact Or.inr (Or.inl ⟨by omega, by omega, by omega, by omega, rfl⟩) | exact Or.inr (Or.inr ⟨by omega, by omega, by omega, by first | rw [mnL_p (by assumption), mxL_p (by assumption), cl_p (by assumption)] | rw [mnL_p (by assumption), mxL_p (by assumption), cl_n (by assumption)] | rw [mnL_n (by omega), mxL_n (by omega), cl_p (by assumption)] | rw [mnL_n (by omega), mxL_n (by omega), cl_n (by assumption)]⟩))
    · exact hret _ _ _ dX0_bring_13 (by first | exact Or.inl ⟨by omega, rfl⟩ | exact Or.inr (Or.inl ⟨by omega, by omega, by omega, by omega, rfl⟩) | exact Or.inr (Or.inr ⟨by omega, by omega, by omega, by first | rw [mnL_p (by assumption), mxL_p (by assumption), cl_p (by assumption)] | rw [mnL_p (by assumption), mxL_p (by assumption), cl_n (by assumption)] | rw [mnL_n (by omega), mxL_n (by omega), cl_p (by assumption)] | rw [mnL_n (by omega), mxL_n (by omega), cl_n (by assumption)]⟩))
end
section
set_option maxRecDepth 100000
theorem gu_lt {G : Nat → Nat → Int} {j n : Nat} {v : Int} {P : Nat → Int → Prop} (h : ∀ t : Nat, t < n → P t (G j t)) (hv : P n v) : ∀ t : Nat, t < n + 1 → P t (gu G j n v j t) := by
  intro t ht
  by_cases e : t = n
  · subst e; rw [gu_s]; exact hv
  · rw [gu_n e]; exact h t (by omega)
set_option maxHeartbeats 4000000 in
theorem tX0_work (l : Launch) (D : va_G) (dA : Bool → ClassId) (h : Nat) (q : Nat → Nat) (G : Nat → Nat → Int) (sc : List Int) (x0 x1 : Int) (hB : NB (G 0)) (hx0 : -16 ≤ x0 ∧ x0 ≤ 16) (hx1 : -16 ≤ x1 ∧ x1 ≤ 16) : XV l yX0_work cX0_work 6 0 D dA (xw 0 dA h q) [.ref h, vI x0, vI x1] (G, sc) (fun u => (∀ j : Nat, j ≠ 1 → u.1 j = G j) ∧ (∀ t : Nat, t < 6 → u.1 1 t = nV (G 0) t x0 x1) ∧ u.2 = sc) := by
  refine XV.of (by decide +kernel) (by simp [Value.category]) (Nat.le_of_ble_eq_true rfl) ?_
  intro X hX hret
  have hX : XOK l (xR 0) cX0_work 6 (rmL 0) D dA (xw 0 dA h q) X := hX
  have hx : inB x0 := ⟨by omega, by omega⟩
  have hy : inB x1 := ⟨by omega, by omega⟩
  have L3 : ∀ (n k : Nat) (i sum : Int) (G' : Nat → Nat → Int), k ≤ 2 → 3 ≤ k + n → i = (k : Int) → sum = ps3 (G 0) x0 x1 k → (∀ j : Nat, j ≠ 1 → G' j = G j) → (∀ t : Nat, t < 5 → G' 1 t = nV (G 0) t x0 x1) → X (G', sc) 153 [.ref h, vI x0, vI x1, vI sum, vI i] [] := by
    intro n
    induction n with
    | zero => intro k i sum G' h1 h2; exact absurd h2 (by omega)
    | succ n ih =>
      intro k i sum G' h1 h2 hi hs fr hu
      have hN : G' 0 = G 0 := fr 0 (by decide)
      have bs := ps3_b hB hx hy k h1
      refine x_iload hX dX0_work_153 rfl ?_
      refine x_iconst hX dX0_work_155 ?_
      refine x_icmp_ge (tgt := 204) hX dX0_work_156 (by decide) ⟨by omega, by omega⟩ ⟨by omega, by omega⟩ (fun c1 => ?_) (fun c1 => ?_)
      · refine x_aload_n hX dX0_work_204 rfl ?_
        refine x_getA hX (by decide) 1 (by decide) q36 dX0_work_205 ?_
        refine x_iconst hX dX0_work_208 ?_
        refine x_iload_n hX dX0_work_209 rfl ?_
        refine x_iast hX 1 5 (by decide) (by omega) (show _ < 6 by omega) dX0_work_210 ?_
        exact hret _ _ _ dX0_work_211 ⟨fun j hj => (gu_row hj).trans (fr j hj), fun t ht => by
          dsimp only
          by_cases e : t = 5
          · subst e; rw [gu_s, hs, show k = 2 by omega]; rfl
          · rw [gu_n e]; exact hu t (by omega), rfl⟩
      · have hk : k < 2 := by omega
        have hv : G' 1 (3 + k) = s2 (G 0) k x0 x1 := by
          rw [hu (3 + k) (by omega)]
          unfold nV
          rw [if_neg (by omega), if_pos (by omega), show 3 + k - 3 = k by omega]
        have hb := s2_b hB hk hx hy
        refine x_iload_n hX dX0_work_159 rfl ?_
        refine x_aload_n hX dX0_work_160 rfl ?_
        refine x_getA hX (by decide) 1 (by decide) q36 dX0_work_161 ?_
        refine x_iconst hX dX0_work_164 ?_
        refine x_iload hX dX0_work_165 rfl ?_
        refine x_iadd hX dX0_work_167 ?_
        refine x_iald hX 1 (3 + k) (by decide) (by omega) (show _ < 6 by omega) rfl dX0_work_168 ?_
        refine x_if_le (tgt := 195) hX dX0_work_169 (by decide) ⟨by omega, by omega⟩ (fun c2 => ?_) (fun c2 => ?_)
        · refine x_iconst hX dX0_work_195 ?_
          refine x_iadd hX dX0_work_196 ?_
          refine x_istore_n (vs' := [.ref h, vI x0, vI x1, vI (sum + 0), vI i]) hX dX0_work_197 ⟨Nat.le_of_ble_eq_true rfl, Nat.le_of_ble_eq_true rfl⟩ rfl ?_
          refine x_iinc (vs' := [.ref h, vI x0, vI x1, vI (sum + 0), vI (i + 1)]) hX dX0_work_198 rfl (by decide) rfl ?_
          refine x_goto (tgt := 153) hX dX0_work_201 (by decide) ?_
          exact ih (k + 1) _ _ _ (by omega) (by omega) (by omega) (by first | (rw [hs, hN, hv]; show _ = ps3 (G 0) x0 x1 k + G 0 (17 + k) * cl (s2 (G 0) k x0 x1); rw [cl_p (by omega)]) | (rw [hs]; show _ = ps3 (G 0) x0 x1 k + G 0 (17 + k) * cl (s2 (G 0) k x0 x1); rw [cl_n (by omega), Int.mul_zero])) fr hu
        · refine x_aload_n hX dX0_work_172 rfl ?_
          refine x_getA hX (by decide) 0 (by decide) q35 dX0_work_173 ?_
          refine x_bipush hX dX0_work_176 (by decide +kernel) ?_
          refine x_iload hX dX0_work_178 rfl ?_
          refine x_iadd hX dX0_work_180 ?_
          refine x_iald hX 0 (17 + k) (by decide) (by omega) (show _ < 20 by omega) rfl dX0_work_181 ?_
          refine x_aload_n hX dX0_work_182 rfl ?_
          refine x_getA hX (by decide) 1 (by decide) q36 dX0_work_183 ?_
          refine x_iconst hX dX0_work_186 ?_
          refine x_iload hX dX0_work_187 rfl ?_
          refine x_iadd hX dX0_work_189 ?_
          refine x_iald hX 1 (3 + k) (by decide) (by omega) (show _ < 6 by omega) rfl dX0_work_190 ?_
          refine x_imul hX dX0_work_191 ?_
          refine x_goto (tgt := 196) hX dX0_work_192 (by decide) ?_
          refine x_iadd hX dX0_work_196 ?_
          refine x_istore_n (vs' := [.ref h, vI x0, vI x1, vI (sum + ((G') 0 (17 + k)) * ((G') 1 (3 + k))), vI i]) hX dX0_work_197 ⟨Nat.le_of_ble_eq_true rfl, Nat.le_of_ble_eq_true rfl⟩ rfl ?_
          refine x_iinc (vs' := [.ref h, vI x0, vI x1, vI (sum + ((G') 0 (17 + k)) * ((G') 1 (3 + k))), vI (i + 1)]) hX dX0_work_198 rfl (by decide) rfl ?_
          refine x_goto (tgt := 153) hX dX0_work_201 (by decide) ?_
          exact ih (k + 1) _ _ _ (by omega) (by omega) (by omega) (by first | (rw [hs, hN, hv]; show _ = ps3 (G 0) x0 x1 k + G 0 (17 + k) * cl (s2 (G 0) k x0 x1); rw [cl_p (by omega)]) | (rw [hs]; show _ = ps3 (G 0) x0 x1 k + G 0 (17 + k) * cl (s2 (G 0) k x0 x1); rw [cl_n (by omega), Int.mul_zero])) fr hu
  have L2i : ∀ (G' : Nat → Nat → Int) (k : Nat) (i : Int), k < 2 → i = (k : Int) → (∀ j : Nat, j ≠ 1 → G' j = G j) → (∀ t : Nat, t < 3 + k → G' 1 t = nV (G 0) t x0 x1) → (∀ (sum : Int), sum = s2 (G 0) k x0 x1 → ∀ (i2 : Int), X (G', sc) 126 [.ref h, vI x0, vI x1, vI i, vI sum, vI i2] []) → ∀ (n t : Nat) (i2 sum : Int), t ≤ 3 → 4 ≤ t + n → i2 = (t : Int) → sum = ps2 (G 0) k x0 x1 t → X (G', sc) 73 [.ref h, vI x0, vI x1, vI i, vI sum, vI i2] [] := by
    intro G' k i hk hi fr hu kk n
    induction n with
    | zero => intro t i2 sum h1 h2; exact absurd h2 (by omega)
    | succ n ih =>
      intro t i2 sum h1 h2 hi2 hs
      have hN : G' 0 = G 0 := fr 0 (by decide)
      have bs := ps2_b hB hk hx hy t h1
      refine x_iload hX dX0_work_73 rfl ?_
      refine x_iconst hX dX0_work_75 ?_
      refine x_icmp_ge (tgt := 126) hX dX0_work_76 (by decide) ⟨by omega, by omega⟩ ⟨by omega, by omega⟩ (fun c1 => ?_) (fun c1 => ?_)
      · exact kk _ (by rw [hs, show t = 3 by omega]; rfl) _ 
      · have hk3 : t < 3 := by omega
        have hv : G' 1 t = s1 (G 0) t x0 x1 := by
          rw [hu t (by omega)]
          unfold nV
          rw [if_pos hk3]
        have hb := s1_b hB hk3 hx hy
        refine x_iload hX dX0_work_79 rfl ?_
        refine x_aload_n hX dX0_work_81 rfl ?_
        refine x_getA hX (by decide) 1 (by decide) q36 dX0_work_82 ?_
        refine x_iload hX dX0_work_85 rfl ?_
        refine x_iald hX 1 t (by decide) (by omega) (show _ < 6 by omega) rfl dX0_work_87 ?_
        refine x_if_le (tgt := 116) hX dX0_work_88 (by decide) ⟨by omega, by omega⟩ (fun c2 => ?_) (fun c2 => ?_)
        · refine x_iconst hX dX0_work_116 ?_
          refine x_iadd hX dX0_work_117 ?_
          refine x_istore (vs' := [.ref h, vI x0, vI x1, vI i, vI (sum + 0), vI i2]) hX dX0_work_118 ⟨Nat.le_of_ble_eq_true rfl, Nat.le_of_ble_eq_true rfl⟩ rfl ?_
          refine x_iinc (vs' := [.ref h, vI x0, vI x1, vI i, vI (sum + 0), vI (i2 + 1)]) hX dX0_work_120 rfl (by decide) rfl ?_
          refine x_goto (tgt := 73) hX dX0_work_123 (by decide) ?_
          exact ih (t + 1) _ _ (by omega) (by omega) (by omega) (by first | (rw [hs, hN, hv]; show _ = ps2 (G 0) k x0 x1 t + G 0 (9 + 3 * k + t) * cl (s1 (G 0) t x0 x1); rw [cl_p (by omega)]) | (rw [hs]; show _ = ps2 (G 0) k x0 x1 t + G 0 (9 + 3 * k + t) * cl (s1 (G 0) t x0 x1); rw [cl_n (by omega), Int.mul_zero]))
        · refine x_aload_n hX dX0_work_91 rfl ?_
          refine x_getA hX (by decide) 0 (by decide) q35 dX0_work_92 ?_
          refine x_bipush hX dX0_work_95 (by decide +kernel) ?_
          refine x_iconst hX dX0_work_97 ?_
          refine x_iload_n hX dX0_work_98 rfl ?_
          refine x_imul hX dX0_work_99 ?_
          refine x_iadd hX dX0_work_100 ?_
          refine x_iload hX dX0_work_101 rfl ?_
          refine x_iadd hX dX0_work_103 ?_
          refine x_iald hX 0 ((9 + (3 * k)) + t) (by decide) (by omega) (show _ < 20 by omega) rfl dX0_work_104 ?_
          refine x_aload_n hX dX0_work_105 rfl ?_
          refine x_getA hX (by decide) 1 (by decide) q36 dX0_work_106 ?_
          refine x_iload hX dX0_work_109 rfl ?_
          refine x_iald hX 1 t (by decide) (by omega) (show _ < 6 by omega) rfl dX0_work_111 ?_
          refine x_imul hX dX0_work_112 ?_
          refine x_goto (tgt := 117) hX dX0_work_113 (by decide) ?_
          refine x_iadd hX dX0_work_117 ?_
          refine x_istore (vs' := [.ref h, vI x0, vI x1, vI i, vI (sum + ((G') 0 ((9 + (3 * k)) + t)) * ((G') 1 t)), vI i2]) hX dX0_work_118 ⟨Nat.le_of_ble_eq_true rfl, Nat.le_of_ble_eq_true rfl⟩ rfl ?_
          refine x_iinc (vs' := [.ref h, vI x0, vI x1, vI i, vI (sum + ((G') 0 ((9 + (3 * k)) + t)) * ((G') 1 t)), vI (i2 + 1)]) hX dX0_work_120 rfl (by decide) rfl ?_
          refine x_goto (tgt := 73) hX dX0_work_123 (by decide) ?_
          exact ih (t + 1) _ _ (by omega) (by omega) (by omega) (by first | (rw [hs, hN, hv]; show _ = ps2 (G 0) k x0 x1 t + G 0 (9 + 3 * k + t) * cl (s1 (G 0) t x0 x1); rw [cl_p (by omega)]) | (rw [hs]; show _ = ps2 (G 0) k x0 x1 t + G 0 (9 + 3 * k + t) * cl (s1 (G 0) t x0 x1); rw [cl_n (by omega), Int.mul_zero]))
  have L2 : ∀ (n k : Nat) (i : Int) (G' : Nat → Nat → Int), k ≤ 2 → 3 ≤ k + n → i = (k : Int) → (∀ j : Nat, j ≠ 1 → G' j = G j) → (∀ t : Nat, t < 3 + k → G' 1 t = nV (G 0) t x0 x1) → X (G', sc) 54 [.ref h, vI x0, vI x1, vI i] [] := by
    intro n
    induction n with
    | zero => intro k i G' h1 h2; exact absurd h2 (by omega)
    | succ n ih =>
      intro k i G' h1 h2 hi fr hu
      have hN : G' 0 = G 0 := fr 0 (by decide)
      refine x_iload_n hX dX0_work_54 rfl ?_
      refine x_iconst hX dX0_work_55 ?_
      refine x_icmp_ge (tgt := 142) hX dX0_work_56 (by decide) ⟨by omega, by omega⟩ ⟨by omega, by omega⟩ (fun c1 => ?_) (fun c1 => ?_)
      · refine x_take hX 3 (vs' := [.ref h, vI x0, vI x1]) rfl ?_
        have hk9 : k = 2 := by omega
        refine x_aload_n hX dX0_work_142 rfl ?_
        refine x_getA hX (by decide) 0 (by decide) q35 dX0_work_143 ?_
        refine x_bipush hX dX0_work_146 (by decide +kernel) ?_
        refine x_iald hX 0 19 (by decide) (by omega) (show _ < 20 by omega) rfl dX0_work_148 ?_
        refine x_istore_n (vs' := [.ref h, vI x0, vI x1, vI ((G') 0 19)]) hX dX0_work_149 ⟨Nat.le_of_ble_eq_true rfl, Nat.le_of_ble_eq_true rfl⟩ rfl ?_
        refine x_iconst hX dX0_work_150 ?_
        refine x_istore (vs' := [.ref h, vI x0, vI x1, vI ((G') 0 19), vI 0]) hX dX0_work_151 ⟨Nat.le_of_ble_eq_true rfl, Nat.le_of_ble_eq_true rfl⟩ rfl ?_
        exact L3 3 0 0 _ G' (by omega) (by omega) rfl (by rw [hN]; rfl) fr (fun t ht => hu t (by omega))
      · have hk2 : k < 2 := by omega
        refine x_aload_n hX dX0_work_59 rfl ?_
        refine x_getA hX (by decide) 0 (by decide) q35 dX0_work_60 ?_
        refine x_bipush hX dX0_work_63 (by decide +kernel) ?_
        refine x_iload_n hX dX0_work_65 rfl ?_
        refine x_iadd hX dX0_work_66 ?_
        refine x_iald hX 0 (15 + k) (by decide) (by omega) (show _ < 20 by omega) rfl dX0_work_67 ?_
        refine x_istore (vs' := [.ref h, vI x0, vI x1, vI i, vI ((G') 0 (15 + k))]) hX dX0_work_68 ⟨Nat.le_of_ble_eq_true rfl, Nat.le_of_ble_eq_true rfl⟩ rfl ?_
        refine x_iconst hX dX0_work_70 ?_
        refine x_istore (vs' := [.ref h, vI x0, vI x1, vI i, vI ((G') 0 (15 + k)), vI 0]) hX dX0_work_71 ⟨Nat.le_of_ble_eq_true rfl, Nat.le_of_ble_eq_true rfl⟩ rfl ?_
        refine L2i G' k i hk2 hi fr hu (fun sum hsum i2 => ?_) 4 0 0 _ (by omega) (by omega) rfl (by rw [hN]; rfl)
        refine x_aload_n hX dX0_work_126 rfl ?_
        refine x_getA hX (by decide) 1 (by decide) q36 dX0_work_127 ?_
        refine x_iconst hX dX0_work_130 ?_
        refine x_iload_n hX dX0_work_131 rfl ?_
        refine x_iadd hX dX0_work_132 ?_
        refine x_iload hX dX0_work_133 rfl ?_
        refine x_iast hX 1 (3 + k) (by decide) (by omega) (show _ < 6 by omega) dX0_work_135 ?_
        refine x_iinc (vs' := [.ref h, vI x0, vI x1, vI (i + 1), vI sum, vI i2]) hX dX0_work_136 rfl (by decide) rfl ?_
        refine x_goto (tgt := 54) hX dX0_work_139 (by decide) ?_
        refine x_take hX 4 (vs' := [.ref h, vI x0, vI x1, vI (i + 1)]) rfl ?_
        exact ih (k + 1) _ _ (by omega) (by omega) (by omega) (fun j hj => (gu_row hj).trans (fr j hj)) (fun t ht => by
          by_cases e : t = 3 + k
          · subst e; rw [gu_s, hsum]; unfold nV; rw [if_neg (by omega), if_pos (by omega), show 3 + k - 3 = k by omega]
          · rw [gu_n e]; exact hu t (by omega))
  have L1 : ∀ (n k : Nat) (i : Int) (G' : Nat → Nat → Int), k ≤ 3 → 4 ≤ k + n → i = (k : Int) → (∀ j : Nat, j ≠ 1 → G' j = G j) → (∀ t : Nat, t < k → G' 1 t = nV (G 0) t x0 x1) → X (G', sc) 2 [.ref h, vI x0, vI x1, vI i] [] := by
    intro n
    induction n with
    | zero => intro k i G' h1 h2; exact absurd h2 (by omega)
    | succ n ih =>
      intro k i G' h1 h2 hi fr hu
      have hN : G' 0 = G 0 := fr 0 (by decide)
      refine x_iload_n hX dX0_work_2 rfl ?_
      refine x_iconst hX dX0_work_3 ?_
      refine x_icmp_ge (tgt := 52) hX dX0_work_4 (by decide) ⟨by omega, by omega⟩ ⟨by omega, by omega⟩ (fun c1 => ?_) (fun c1 => ?_)
      · refine x_iconst hX dX0_work_52 ?_
        refine x_istore_n (vs' := [.ref h, vI x0, vI x1, vI 0]) hX dX0_work_53 ⟨Nat.le_of_ble_eq_true rfl, Nat.le_of_ble_eq_true rfl⟩ rfl ?_
        exact L2 3 0 0 G' (by omega) (by omega) rfl fr (fun t ht => hu t (by omega))
      · refine x_aload_n hX dX0_work_7 rfl ?_
        refine x_getA hX (by decide) 1 (by decide) q36 dX0_work_8 ?_
        refine x_iload_n hX dX0_work_11 rfl ?_
        refine x_aload_n hX dX0_work_12 rfl ?_
        refine x_getA hX (by decide) 0 (by decide) q35 dX0_work_13 ?_
        refine x_iconst hX dX0_work_16 ?_
        refine x_iload_n hX dX0_work_17 rfl ?_
        refine x_imul hX dX0_work_18 ?_
        refine x_iald hX 0 (2 * k) (by decide) (by omega) (show _ < 20 by omega) rfl dX0_work_19 ?_
        refine x_iload_n hX dX0_work_20 rfl ?_
        refine x_imul hX dX0_work_21 ?_
        refine x_aload_n hX dX0_work_22 rfl ?_
        refine x_getA hX (by decide) 0 (by decide) q35 dX0_work_23 ?_
        refine x_iconst hX dX0_work_26 ?_
        refine x_iload_n hX dX0_work_27 rfl ?_
        refine x_imul hX dX0_work_28 ?_
        refine x_iconst hX dX0_work_29 ?_
        refine x_iadd hX dX0_work_30 ?_
        refine x_iald hX 0 ((2 * k) + 1) (by decide) (by omega) (show _ < 20 by omega) rfl dX0_work_31 ?_
        refine x_iload_n hX dX0_work_32 rfl ?_
        refine x_imul hX dX0_work_33 ?_
        refine x_iadd hX dX0_work_34 ?_
        refine x_aload_n hX dX0_work_35 rfl ?_
        refine x_getA hX (by decide) 0 (by decide) q35 dX0_work_36 ?_
        refine x_bipush hX dX0_work_39 (by decide +kernel) ?_
        refine x_iload_n hX dX0_work_41 rfl ?_
        refine x_iadd hX dX0_work_42 ?_
        refine x_iald hX 0 (6 + k) (by decide) (by omega) (show _ < 20 by omega) rfl dX0_work_43 ?_
        refine x_iadd hX dX0_work_44 ?_
        refine x_iast hX 1 k (by decide) (by omega) (show _ < 6 by omega) dX0_work_45 ?_
        refine x_iinc (vs' := [.ref h, vI x0, vI x1, vI (i + 1)]) hX dX0_work_46 rfl (by decide) rfl ?_
        refine x_goto (tgt := 2) hX dX0_work_49 (by decide) ?_
        exact ih (k + 1) _ _ (by omega) (by omega) (by omega) (fun j hj => (gu_row hj).trans (fr j hj)) (gu_lt (P := fun t v => v = nV (G 0) t x0 x1) hu (by rw [hN]; unfold nV; rw [if_pos (by omega)]; rfl))
  refine x_iconst hX dX0_work_0 ?_
  refine x_istore_n (vs' := [.ref h, vI x0, vI x1, vI 0]) hX dX0_work_1 ⟨Nat.le_of_ble_eq_true rfl, Nat.le_of_ble_eq_true rfl⟩ rfl ?_
  exact L1 4 0 0 G (by omega) (by omega) rfl (fun _ _ => rfl) (fun t ht => absurd ht (by omega))
set_option maxHeartbeats 4000000 in
theorem tX0_patternOf (l : Launch) (D : va_G) (dA : Bool → ClassId) (h : Nat) (q : Nat → Nat) (G : Nat → Nat → Int) (sc : List Int) (b2 : ∀ k : Nat, k < 5 → inR (G 2 k)) (b3 : ∀ k : Nat, k < 5 → inR (G 3 k)) : XM l yX0_patternOf cX0_patternOf 3 (some .int) 0 D dA (xw 0 dA h q) [.ref h] (G, sc) (fun r u => ((r = -1 ∧ ∃ k : Nat, k < 5 ∧ G 2 k ≤ 0 ∧ 0 < G 3 k) ∨ (r = (patN (fun t => decide (0 < G 2 t)) 5 : Nat) ∧ ∀ k : Nat, k < 5 → 0 < G 2 k ∨ G 3 k ≤ 0)) ∧ u = (G, sc)) := by
  refine XM.of (by decide +kernel) (by simp [Value.category]) (Nat.le_of_ble_eq_true rfl) ?_
  intro X hX hret
  have hX : XOK l (xR 0) cX0_patternOf 3 (rmL 0) D dA (xw 0 dA h q) X := hX
  have L : ∀ (n k p : Nat) (i j : Int), k ≤ 5 → 6 ≤ k + n → i = (k : Int) → j = (p : Int) → p = patN (fun t => decide (0 < G 2 t)) k → (∀ t : Nat, t < k → 0 < G 2 t ∨ G 3 t ≤ 0) → X (G, sc) 4 [.ref h, vI j, vI i] [] := by
    intro n
    induction n with
    | zero => intro k p i j h1 h2; exact absurd h2 (by omega)
    | succ n ih =>
      intro k p i j h1 h2 hi hp hpp hall
      refine x_iload_n hX dX0_patternOf_4 rfl ?_
      refine x_iconst hX dX0_patternOf_5 ?_
      refine x_icmp_ge (tgt := 44) hX dX0_patternOf_6 (by decide) ⟨by omega, by omega⟩ ⟨by omega, by omega⟩ (fun c1 => ?_) (fun c1 => ?_)
      · have e5 : k = 5 := by omega
        subst e5
        refine x_iload_n hX dX0_patternOf_44 rfl ?_
        exact hret _ _ _ _ dX0_patternOf_45 ⟨Or.inr ⟨by rw [hp, hpp], hall⟩, rfl⟩
      · have hk : k < 5 := by omega
        have b2 := b2 k hk
        have b3 := b3 k hk
        refine x_aload_n hX dX0_patternOf_9 rfl ?_
        refine x_getA hX (by decide) 2 (by decide) q37 dX0_patternOf_10 ?_
        refine x_iload_n hX dX0_patternOf_13 rfl ?_
        refine x_iald hX 2 k (by decide) (by omega) (show _ < 6 by omega) rfl dX0_patternOf_14 ?_
        refine x_if_le (tgt := 27) hX dX0_patternOf_15 (by decide) ⟨by omega, by omega⟩ (fun c2 => ?_) (fun c2 => ?_)
        · refine x_aload_n hX dX0_patternOf_27 rfl ?_
          refine x_getA hX (by decide) 3 (by decide) q38 dX0_patternOf_28 ?_
          refine x_iload_n hX dX0_patternOf_31 rfl ?_
          refine x_iald hX 3 k (by decide) (by omega) (show _ < 6 by omega) rfl dX0_patternOf_32 ?_
          refine x_if_le (tgt := 38) hX dX0_patternOf_33 (by decide) ⟨by omega, by omega⟩ (fun c3 => ?_) (fun c3 => ?_)
          · refine x_iinc (vs' := [.ref h, vI j, vI (i + 1)]) hX dX0_patternOf_38 rfl (by decide) rfl ?_
            refine x_goto (tgt := 4) hX dX0_patternOf_41 (by decide) ?_
            exact ih (k + 1) _ _ _ (by omega) (by omega) (by omega) (by first | rfl | exact hp) (by show _ = patN _ k + _; first | (rw [if_pos (by simp; omega), ← hpp]) | (rw [if_neg (by simp; omega), ← hpp, Nat.add_zero])) (fun t ht => by by_cases e : t = k; (subst e; omega); exact hall t (by omega))
          · refine x_iconst hX dX0_patternOf_36 ?_
            exact hret _ _ _ _ dX0_patternOf_37 ⟨Or.inl ⟨rfl, k, by omega, by omega, by omega⟩, rfl⟩
        · refine x_iload_n hX dX0_patternOf_18 rfl ?_
          refine x_iconst hX dX0_patternOf_19 ?_
          refine x_iload_n hX dX0_patternOf_20 rfl ?_
          refine x_ishl hX dX0_patternOf_21 rfl ?_
          refine x_ior (v := iI ((p + 2 ^ k : Nat) : Int)) hX dX0_patternOf_22 (by rw [hp, hi]; exact iI_por (by omega) (by rw [hpp]; exact patN_lt _ k)) ?_
          refine x_istore_n (vs' := [.ref h, vI (((p + 2 ^ k : Nat) : Int)), vI i]) hX dX0_patternOf_23 ⟨Nat.le_of_ble_eq_true rfl, Nat.le_of_ble_eq_true rfl⟩ rfl ?_
          refine x_goto (tgt := 38) hX dX0_patternOf_24 (by decide) ?_
          refine x_iinc (vs' := [.ref h, vI (((p + 2 ^ k : Nat) : Int)), vI (i + 1)]) hX dX0_patternOf_38 rfl (by decide) rfl ?_
          refine x_goto (tgt := 4) hX dX0_patternOf_41 (by decide) ?_
          exact ih (k + 1) _ _ _ (by omega) (by omega) (by omega) (by first | rfl | exact hp) (by show _ = patN _ k + _; first | (rw [if_pos (by simp; omega), ← hpp]) | (rw [if_neg (by simp; omega), ← hpp, Nat.add_zero])) (fun t ht => by by_cases e : t = k; (subst e; omega); exact hall t (by omega))
  refine x_iconst hX dX0_patternOf_0 ?_
  refine x_istore_n (vs' := [.ref h, vI 0]) hX dX0_patternOf_1 ⟨Nat.le_of_ble_eq_true rfl, Nat.le_of_ble_eq_true rfl⟩ rfl ?_
  refine x_iconst hX dX0_patternOf_2 ?_
  refine x_istore_n (vs' := [.ref h, vI 0, vI 0]) hX dX0_patternOf_3 ⟨Nat.le_of_ble_eq_true rfl, Nat.le_of_ble_eq_true rfl⟩ rfl ?_
  exact L 6 0 0 _ _ (by omega) (by omega) rfl rfl rfl (fun t ht => absurd ht (by omega))
set_option maxHeartbeats 4000000 in
theorem tX0_finish (l : Launch) (D : va_G) (dA : Bool → ClassId) (h : Nat) (q : Nat → Nat) (G : Nat → Nat → Int) (sc : List Int) (k : Nat) (i l0 h0 l1 h1 : Int) (hi : i = (k : Int)) (hk : k < 6) (b4 : inR (G 4 k)) (b5 : inR (G 5 k)) : XV l yX0_finish cX0_finish 8 1 D dA (xw 0 dA h q) [.ref h, vI i, vI l0, vI h0, vI l1, vI h1] (G, sc) (fun u => u = (gu (gu (gu (gu G 2 k (G 6 k + mnL (G 4 k) l0 h0 + mnL (G 5 k) l1 h1)) 3 k (G 6 k + mxL (G 4 k) l0 h0 + mxL (G 5 k) l1 h1)) 2 k (G 6 k + mnL (G 4 k) l0 h0 + mnL (G 5 k) l1 h1 + G 2 k)) 3 k (G 6 k + mxL (G 4 k) l0 h0 + mxL (G 5 k) l1 h1 + G 3 k), sc)) := by
  refine XV.of (by decide +kernel) (by simp [Value.category]) (Nat.le_of_ble_eq_true rfl) ?_
  intro X hX hret
  have hX : XOK l (xR 0) cX0_finish 8 (rmL 1) D dA (xw 0 dA h q) X := hX
  refine x_aload_n hX dX0_finish_0 rfl ?_
  refine x_getA hX (by decide) 2 (by decide) q37 dX0_finish_1 ?_
  refine x_iload_n hX dX0_finish_4 rfl ?_
  refine x_iald hX 2 k (by decide) (by omega) (show _ < 6 by omega) rfl dX0_finish_5 ?_
  refine x_istore (vs' := [.ref h, vI i, vI l0, vI h0, vI l1, vI h1, vI (G 2 k)]) hX dX0_finish_6 ⟨Nat.le_of_ble_eq_true rfl, Nat.le_of_ble_eq_true rfl⟩ rfl ?_
  refine x_aload_n hX dX0_finish_8 rfl ?_
  refine x_getA hX (by decide) 3 (by decide) q38 dX0_finish_9 ?_
  refine x_iload_n hX dX0_finish_12 rfl ?_
  refine x_iald hX 3 k (by decide) (by omega) (show _ < 6 by omega) rfl dX0_finish_13 ?_
  refine x_istore (vs' := [.ref h, vI i, vI l0, vI h0, vI l1, vI h1, vI (G 2 k), vI (G 3 k)]) hX dX0_finish_14 ⟨Nat.le_of_ble_eq_true rfl, Nat.le_of_ble_eq_true rfl⟩ rfl ?_
  refine x_aload_n hX dX0_finish_16 rfl ?_
  refine x_iload_n hX dX0_finish_17 rfl ?_
  refine x_iload_n hX dX0_finish_18 rfl ?_
  refine x_iload_n hX dX0_finish_19 rfl ?_
  refine x_iload hX dX0_finish_20 rfl ?_
  refine x_iload hX dX0_finish_22 rfl ?_
  refine x_callV hX (by decide) [vI i, vI l0, vI h0, vI l1, vI h1] [] (tX0_exact l D dA h q G sc k i l0 h0 l1 h1 hi hk b4 b5) q130 q132 qs4 q25 q133 (show dsc (xR 0) yX0_exact 5 by decide +kernel) (by decide) rfl (Nat.le_of_ble_eq_true rfl) dX0_finish_24 (fun u hu => ?_)
  subst hu
  refine x_aload_n hX dX0_finish_27 rfl ?_
  refine x_getA hX (by decide) 2 (by decide) q37 dX0_finish_28 ?_
  refine x_iload_n hX dX0_finish_31 rfl ?_
  refine x_dup2 hX dX0_finish_32 rfl rfl ?_
  refine x_iald (v := G 6 k + mnL (G 4 k) l0 h0 + mnL (G 5 k) l1 h1) hX 2 k (by decide) (by omega) (show _ < 6 by omega) (by simp [gu]) dX0_finish_33 ?_
  refine x_iload hX dX0_finish_34 rfl ?_
  refine x_iadd hX dX0_finish_36 ?_
  refine x_iast hX 2 k (by decide) (by omega) (show _ < 6 by omega) dX0_finish_37 ?_
  refine x_aload_n hX dX0_finish_38 rfl ?_
  refine x_getA hX (by decide) 3 (by decide) q38 dX0_finish_39 ?_
  refine x_iload_n hX dX0_finish_42 rfl ?_
  refine x_dup2 hX dX0_finish_43 rfl rfl ?_
  refine x_iald (v := G 6 k + mxL (G 4 k) l0 h0 + mxL (G 5 k) l1 h1) hX 3 k (by decide) (by omega) (show _ < 6 by omega) (by simp [gu]) dX0_finish_44 ?_
  refine x_iload hX dX0_finish_45 rfl ?_
  refine x_iadd hX dX0_finish_47 ?_
  refine x_iast hX 3 k (by decide) (by omega) (show _ < 6 by omega) dX0_finish_48 ?_
  exact hret _ _ _ dX0_finish_49 rfl
end
section
set_option maxRecDepth 100000
/-- what the ranges of a sum say on a box: P lies between; if linear, P is the linear form and the ranges are its corners' -/
def GoodP (P : Int → Int → Int) (G : Nat → Nat → Int) (k : Nat) (l0 h0 l1 h1 bf br bl : Int) : Prop :=
  (∀ x y : Int, l0 ≤ x → x ≤ h0 → l1 ≤ y → y ≤ h1 → G 2 k ≤ P x y ∧ P x y ≤ G 3 k) ∧ (G 7 k = 0 ∨ G 7 k = 1) ∧
  (G 7 k = 1 → (∀ x y : Int, l0 ≤ x → x ≤ h0 → l1 ≤ y → y ≤ h1 → P x y = G 4 k * x + G 5 k * y + G 6 k) ∧ G 2 k = G 6 k + mnL (G 4 k) l0 h0 + mnL (G 5 k) l1 h1 ∧ G 3 k = G 6 k + mxL (G 4 k) l0 h0 + mxL (G 5 k) l1 h1) ∧
  (l0 = h0 → l1 = h1 → G 7 k = 1) ∧ ((-bf ≤ G 4 k ∧ G 4 k ≤ bf) ∧ (-bf ≤ G 5 k ∧ G 5 k ≤ bf) ∧ (-br ≤ G 6 k ∧ G 6 k ≤ br) ∧ (-bl ≤ G 2 k ∧ G 2 k ≤ bl) ∧ (-bl ≤ G 3 k ∧ G 3 k ≤ bl))
/-- a sum under way: what mixed units bring lies in lows and highs -/
def PartP (P : Int → Int → Int) (G : Nat → Nat → Int) (k : Nat) (l0 h0 l1 h1 bf br bm : Int) : Prop :=
  (∀ x y : Int, l0 ≤ x → x ≤ h0 → l1 ≤ y → y ≤ h1 → G 2 k ≤ P x y - (G 4 k * x + G 5 k * y + G 6 k) ∧ P x y - (G 4 k * x + G 5 k * y + G 6 k) ≤ G 3 k) ∧ (G 7 k = 0 ∨ G 7 k = 1) ∧
  (G 7 k = 1 → G 2 k = 0 ∧ G 3 k = 0) ∧
  (l0 = h0 → l1 = h1 → G 7 k = 1) ∧ ((-bf ≤ G 4 k ∧ G 4 k ≤ bf) ∧ (-bf ≤ G 5 k ∧ G 5 k ≤ bf) ∧ (-br ≤ G 6 k ∧ G 6 k ≤ br) ∧ (-bm ≤ G 2 k ∧ G 2 k ≤ bm) ∧ (-bm ≤ G 3 k ∧ G 3 k ≤ bm))
/-- only the place k of the rows 2 to 7 has changed -/
def FrK (G G' : Nat → Nat → Int) (k : Nat) : Prop := (∀ a b : Nat, b ≠ k → G' a b = G a b) ∧ ∀ a : Nat, (a < 2 ∨ 8 ≤ a) → G' a = G a
theorem FrK.rf (G : Nat → Nat → Int) (k : Nat) : FrK G G k := ⟨fun _ _ _ => rfl, fun _ _ => rfl⟩
theorem FrK.tr {G G1 G2 : Nat → Nat → Int} {k : Nat} (h1 : FrK G G1 k) (h2 : FrK G1 G2 k) : FrK G G2 k := ⟨fun a b h => (h2.1 a b h).trans (h1.1 a b h), fun a h => (h2.2 a h).trans (h1.2 a h)⟩
theorem FrK.gu {G G' : Nat → Nat → Int} {k j : Nat} (h : FrK G G' k) (v : Int) (hj : 2 ≤ j ∧ j < 8) : FrK G (gu G' j k v) k :=
  ⟨fun a b hb => (gu_n hb).trans (h.1 a b hb), fun a ha => (gu_row (by omega)).trans (h.2 a ha)⟩
theorem GoodP.congr {P : Int → Int → Int} {G G' : Nat → Nat → Int} {k : Nat} {l0 h0 l1 h1 bf br bl : Int} (h : GoodP P G k l0 h0 l1 h1 bf br bl) (e : ∀ a : Nat, G' a k = G a k) : GoodP P G' k l0 h0 l1 h1 bf br bl := by
  unfold GoodP
  rw [e 2, e 3, e 4, e 5, e 6, e 7]
  exact h
theorem cl_id {t : Int} (h : 0 ≤ t) : cl t = t := by unfold cl; split <;> omega
theorem mL_pt {a c : Int} : mnL a c c = a * c ∧ mxL a c c = a * c := by unfold mnL mxL; split <;> exact ⟨rfl, rfl⟩
theorem lin_ring (f a b c x y A B C p : Int) : p + f * (a * x + b * y + c) - ((A + f * a) * x + (B + f * b) * y + (C + f * c)) = p - (A * x + B * y + C) := by
  grind
/-- begin -/
theorem begin_P {G : Nat → Nat → Int} {k : Nat} {o l0 h0 l1 h1 : Int} (ho : -50 ≤ o ∧ o ≤ 50) :
    PartP (fun _ _ => o) (gu (gu (gu (gu (gu (gu G 4 k 0) 5 k 0) 6 k o) 2 k 0) 3 k 0) 7 k 1) k l0 h0 l1 h1 0 50 0 ∧ FrK G (gu (gu (gu (gu (gu (gu G 4 k 0) 5 k 0) 6 k o) 2 k 0) 3 k 0) 7 k 1) k := by
  refine ⟨?_, FrK.gu (FrK.gu (FrK.gu (FrK.gu (FrK.gu (FrK.gu (FrK.rf G k) _ (by omega)) _ (by omega)) _ (by omega)) _ (by omega)) _ (by omega)) _ (by omega)⟩
  unfold PartP
  simp [gu]
  omega
/-- bring -/
theorem bring_P {P Vj : Int → Int → Int} {G : Nat → Nat → Int} {sc : List Int} {u : xU} {k j : Nat} {f l0 h0 l1 h1 bf br bm cf cr cb : Int} (hl0 : l0 ≤ h0) (hl1 : l1 ≤ h1) (hne : j ≠ k) (hf : -5 ≤ f ∧ f ≤ 5)
    (hP : PartP P G k l0 h0 l1 h1 bf br bm) (hJ : GoodP Vj G j l0 h0 l1 h1 cf cr cb)
    (hu : ((f = 0 ∨ G 3 j ≤ 0) ∧ u = (G, sc)) ∨ (f ≠ 0 ∧ 0 < G 3 j ∧ G 7 j ≠ 0 ∧ 0 ≤ G 2 j ∧ u = (gu (gu (gu G 4 k (G 4 k + f * G 4 j)) 5 k (G 5 k + f * G 5 j)) 6 k (G 6 k + f * G 6 j), sc)) ∨ (f ≠ 0 ∧ 0 < G 3 j ∧ (G 7 j = 0 ∨ G 2 j < 0) ∧ u = (gu (gu (gu G 2 k (G 2 k + mnL f (cl (G 2 j)) (G 3 j))) 3 k (G 3 k + mxL f (cl (G 2 j)) (G 3 j))) 7 k 0, sc))) :
    PartP (fun x y => P x y + f * cl (Vj x y)) u.1 k l0 h0 l1 h1 (bf + 5 * cf) (br + 5 * cr) (bm + 5 * cb) ∧ FrK G u.1 k ∧ u.2 = sc := by
  obtain ⟨p1, p2, p3, p4, p5, p6, p7, p8, p9⟩ := hP
  obtain ⟨g1, g2, g3, g4, g5, g6, g7, g8, g9⟩ := hJ
  have m4 := mulb hf g5
  have m5 := mulb hf g6
  have m6 := mulb hf g7
  rcases hu with ⟨c, rfl⟩ | ⟨c1, c2, c3, c4, rfl⟩ | ⟨c1, c2, c3, rfl⟩
  · refine ⟨?_, FrK.rf G k, rfl⟩
    show PartP (fun x y => P x y + f * cl (Vj x y)) G k l0 h0 l1 h1 (bf + 5 * cf) (br + 5 * cr) (bm + 5 * cb)
    refine ⟨fun x y a1 a2 a3 a4 => ?_, p2, p3, p4, by omega, by omega, by omega, by omega, by omega⟩
    have e : f * cl (Vj x y) = 0 := by
      rcases c with c | c
      · rw [c, Int.zero_mul]
      · rw [cl_n (by have := (g1 x y a1 a2 a3 a4).2; omega), Int.mul_zero]
    have := p1 x y a1 a2 a3 a4
    show _ ≤ P x y + f * cl (Vj x y) - _ ∧ P x y + f * cl (Vj x y) - _ ≤ _
    rw [e, Int.add_zero]
    exact this
  · have hlin := g3 (by omega)
    refine ⟨?_, FrK.gu (FrK.gu (FrK.gu (FrK.rf G k) _ (by omega)) _ (by omega)) _ (by omega), rfl⟩
    unfold PartP
    simp only [gu]
    simp
    refine ⟨fun x y a1 a2 a3 a4 => ?_, p2, p3, p4, by omega, by omega, by omega, by omega, by omega⟩
    have e1 := hlin.1 x y a1 a2 a3 a4
    have e2 := g1 x y a1 a2 a3 a4
    have := p1 x y a1 a2 a3 a4
    rw [cl_id (by omega), e1, lin_ring]
    exact this
  · have hcl : -cb ≤ cl (G 2 j) ∧ cl (G 2 j) ≤ cb := cl_b g8
    have mb := mL_b hf hcl g9
    refine ⟨?_, FrK.gu (FrK.gu (FrK.gu (FrK.rf G k) _ (by omega)) _ (by omega)) _ (by omega), rfl⟩
    unfold PartP
    simp only [gu]
    simp
    refine ⟨fun x y a1 a2 a3 a4 => ?_, fun q1 q2 => ?_, by omega, by omega, by omega, by omega, by omega⟩
    · have e2 := g1 x y a1 a2 a3 a4
      have := p1 x y a1 a2 a3 a4
      have e3 := mL_in (a := f) (cl_mono e2.1) (show cl (Vj x y) ≤ G 3 j by unfold cl; split <;> omega)
      omega
    · exfalso
      have h7 := g4 q1 q2
      obtain ⟨-, e2, e3⟩ := g3 h7
      subst q1 q2
      rw [mL_pt.1, mL_pt.1] at e2
      rw [mL_pt.2, mL_pt.2] at e3
      omega
/-- finish -/
theorem finish_P {P : Int → Int → Int} {G : Nat → Nat → Int} {k : Nat} {l0 h0 l1 h1 bf br bm : Int} (b0 : -16 ≤ l0 ∧ l0 ≤ h0 ∧ h0 ≤ 16) (b1 : -16 ≤ l1 ∧ l1 ≤ h1 ∧ h1 ≤ 16) (hP : PartP P G k l0 h0 l1 h1 bf br bm) :
    GoodP P (gu (gu (gu (gu G 2 k (G 6 k + mnL (G 4 k) l0 h0 + mnL (G 5 k) l1 h1)) 3 k (G 6 k + mxL (G 4 k) l0 h0 + mxL (G 5 k) l1 h1)) 2 k (G 6 k + mnL (G 4 k) l0 h0 + mnL (G 5 k) l1 h1 + G 2 k)) 3 k (G 6 k + mxL (G 4 k) l0 h0 + mxL (G 5 k) l1 h1 + G 3 k)) k l0 h0 l1 h1 bf br (br + 32 * bf + bm) ∧
    FrK G (gu (gu (gu (gu G 2 k (G 6 k + mnL (G 4 k) l0 h0 + mnL (G 5 k) l1 h1)) 3 k (G 6 k + mxL (G 4 k) l0 h0 + mxL (G 5 k) l1 h1)) 2 k (G 6 k + mnL (G 4 k) l0 h0 + mnL (G 5 k) l1 h1 + G 2 k)) 3 k (G 6 k + mxL (G 4 k) l0 h0 + mxL (G 5 k) l1 h1 + G 3 k)) k := by
  obtain ⟨p1, p2, p3, p4, p5, p6, p7, p8, p9⟩ := hP
  refine ⟨?_, FrK.gu (FrK.gu (FrK.gu (FrK.gu (FrK.rf G k) _ (by omega)) _ (by omega)) _ (by omega)) _ (by omega)⟩
  have m4 := mL_b p5 (show -16 ≤ l0 ∧ l0 ≤ 16 by omega) (show -16 ≤ h0 ∧ h0 ≤ 16 by omega)
  have m5 := mL_b p6 (show -16 ≤ l1 ∧ l1 ≤ 16 by omega) (show -16 ≤ h1 ∧ h1 ≤ 16 by omega)
  unfold GoodP
  simp only [gu]
  simp
  refine ⟨fun x y a1 a2 a3 a4 => ?_, p2, fun h7 => ⟨fun x y a1 a2 a3 a4 => ?_, ?_, ?_⟩, p4, by omega, by omega, by omega, by omega, by omega⟩
  · have := p1 x y a1 a2 a3 a4
    have e0 := mL_in (a := G 4 k) a1 a2
    have e1 := mL_in (a := G 5 k) a3 a4
    omega
  · have := p1 x y a1 a2 a3 a4
    have := p3 h7
    omega
  · have := p3 h7
    omega
  · have := p3 h7
    omega
/-- the inner sums: exact -/
theorem exact_P {N : Nat → Int} {G : Nat → Nat → Int} {k : Nat} {l0 h0 l1 h1 : Int} (hN : NB N) (h0' : G 0 = N) (hk : k < 3) (b0 : -16 ≤ l0 ∧ l0 ≤ h0 ∧ h0 ≤ 16) (b1 : -16 ≤ l1 ∧ l1 ≤ h1 ∧ h1 ≤ 16)
    (e4 : G 4 k = N (2 * k)) (e5 : G 5 k = N (2 * k + 1)) (e6 : G 6 k = N (6 + k)) (e7 : G 7 k = 1) :
    GoodP (nV N k) (gu (gu G 2 k (G 6 k + mnL (G 4 k) l0 h0 + mnL (G 5 k) l1 h1)) 3 k (G 6 k + mxL (G 4 k) l0 h0 + mxL (G 5 k) l1 h1)) k l0 h0 l1 h1 5 50 210 ∧
    FrK G (gu (gu G 2 k (G 6 k + mnL (G 4 k) l0 h0 + mnL (G 5 k) l1 h1)) 3 k (G 6 k + mxL (G 4 k) l0 h0 + mxL (G 5 k) l1 h1)) k := by
  refine ⟨?_, FrK.gu (FrK.gu (FrK.rf G k) _ (by omega)) _ (by omega)⟩
  have p5 : -5 ≤ G 4 k ∧ G 4 k ≤ 5 := by rw [e4]; exact hN.f _ (by omega) (by unfold isO; omega)
  have p6 : -5 ≤ G 5 k ∧ G 5 k ≤ 5 := by rw [e5]; exact hN.f _ (by omega) (by unfold isO; omega)
  have p7 : -50 ≤ G 6 k ∧ G 6 k ≤ 50 := by rw [e6]; exact hN.o _ (by omega)
  have m4 := mL_b p5 (show -16 ≤ l0 ∧ l0 ≤ 16 by omega) (show -16 ≤ h0 ∧ h0 ≤ 16 by omega)
  have m5 := mL_b p6 (show -16 ≤ l1 ∧ l1 ≤ 16 by omega) (show -16 ≤ h1 ∧ h1 ≤ 16 by omega)
  have hv : ∀ x y : Int, nV N k x y = G 4 k * x + G 5 k * y + G 6 k := fun x y => by
    unfold nV s1
    rw [if_pos hk, e4, e5, e6]
  unfold GoodP
  simp only [gu]
  simp
  refine ⟨fun x y a1 a2 a3 a4 => ?_, by omega, fun _ => (fun x y _ _ _ _ => hv x y), by intros; omega, by omega, by omega, by omega, by omega, by omega⟩
  have e0 := mL_in (a := G 4 k) a1 a2
  have e1 := mL_in (a := G 5 k) a3 a4
  rw [hv]
  omega
end
section
set_option maxRecDepth 100000
theorem x_nmG {X : xU → Nat → List Value → List Value → Prop} {G : Nat → Nat → Int} {sc : List Int} {pc : Nat} {vs st : List Value} (k : ∀ G2, G2 = G → X (G2, sc) pc vs st) : X (G, sc) pc vs st := k G rfl
theorem GoodP.weak {P : Int → Int → Int} {G : Nat → Nat → Int} {k : Nat} {l0 h0 l1 h1 bf br bl bf' br' bl' : Int} (h : GoodP P G k l0 h0 l1 h1 bf br bl) (e1 : bf ≤ bf') (e2 : br ≤ br') (e3 : bl ≤ bl') : GoodP P G k l0 h0 l1 h1 bf' br' bl' := by
  obtain ⟨g1, g2, g3, g4, g5, g6, g7, g8, g9⟩ := h
  exact ⟨g1, g2, g3, g4, by omega, by omega, by omega, by omega, by omega⟩
theorem PartP.weak {P P' : Int → Int → Int} {G : Nat → Nat → Int} {k : Nat} {l0 h0 l1 h1 bf br bl bf' br' bl' : Int} (h : PartP P G k l0 h0 l1 h1 bf br bl) (e0 : P = P') (e1 : bf ≤ bf') (e2 : br ≤ br') (e3 : bl ≤ bl') : PartP P' G k l0 h0 l1 h1 bf' br' bl' := by
  subst e0
  obtain ⟨g1, g2, g3, g4, g5, g6, g7, g8, g9⟩ := h
  exact ⟨g1, g2, g3, g4, by omega, by omega, by omega, by omega, by omega⟩
/-- all six ranges are right on the box -/
def Ranges (N : Nat → Int) (G : Nat → Nat → Int) (l0 h0 l1 h1 : Int) : Prop := ∀ k : Nat, k < 6 → GoodP (nV N k) G k l0 h0 l1 h1 750 8050 95550
theorem nV_2 {N : Nat → Int} {t : Nat} (h : t < 2) : nV N (3 + t) = s2 N t := by
  funext x y
  unfold nV
  rw [if_neg (by omega), if_pos (by omega), show 3 + t - 3 = t by omega]
theorem nV_1 {N : Nat → Int} {t : Nat} (h : t < 3) : nV N t = s1 N t := by
  funext x y
  unfold nV
  rw [if_pos h]
theorem nV_3 {N : Nat → Int} : nV N 5 = s3 N := by
  funext x y
  rfl
set_option maxHeartbeats 4000000 in
theorem tX0_range (l : Launch) (D : va_G) (dA : Bool → ClassId) (h : Nat) (q : Nat → Nat) (G : Nat → Nat → Int) (sc : List Int) (l0 u0 l1 u1 : Int) (hB : NB (G 0)) (b0 : -16 ≤ l0 ∧ l0 ≤ u0 ∧ u0 ≤ 16) (b1 : -16 ≤ l1 ∧ l1 ≤ u1 ∧ u1 ≤ 16) : XV l yX0_range cX0_range 7 2 D dA (xw 0 dA h q) [.ref h, vI l0, vI u0, vI l1, vI u1] (G, sc) (fun u => (∀ a : Nat, (a < 2 ∨ 8 ≤ a) → u.1 a = G a) ∧ u.2 = sc ∧ Ranges (G 0) u.1 l0 u0 l1 u1) := by
  refine XV.of (by decide +kernel) (by simp [Value.category]) (Nat.le_of_ble_eq_true rfl) ?_
  intro X hX hret
  have hX : XOK l (xR 0) cX0_range 7 (rmL 2) D dA (xw 0 dA h q) X := hX
  have L3 : ∀ (n t : Nat) (i : Int) (G' : Nat → Nat → Int), t ≤ 2 → 3 ≤ t + n → i = ((3 + t : Nat) : Int) → (∀ a : Nat, (a < 2 ∨ 8 ≤ a) → G' a = G a) → (∀ j : Nat, j < 3 → GoodP (nV (G 0) j) G' j l0 u0 l1 u1 5 50 210) → (∀ j : Nat, 3 ≤ j → j < 5 → GoodP (nV (G 0) j) G' j l0 u0 l1 u1 75 800 6350) → PartP (fun x y => ps3 (G 0) x y t) G' 5 l0 u0 l1 u1 (375 * (t : Int)) (50 + 4000 * (t : Int)) (31750 * (t : Int)) → X (G', sc) 182 [.ref h, vI l0, vI u0, vI l1, vI u1, vI i] [] := by
    intro n
    induction n with
    | zero => intro t i G' e1 e2; exact absurd e2 (by omega)
    | succ n ih =>
      intro t i G' e1 e2 hi fr g1 g2 hpt
      have hN : G' 0 = G 0 := fr 0 (by omega)
      refine x_iload hX dX0_range_182 rfl ?_
      refine x_iconst hX dX0_range_184 ?_
      refine x_icmp_ge (tgt := 211) hX dX0_range_185 (by decide) ⟨by omega, by omega⟩ ⟨by omega, by omega⟩ (fun c1 => ?_) (fun c1 => ?_)
      · refine x_aload_n hX dX0_range_211 rfl ?_
        refine x_iconst hX dX0_range_212 ?_
        refine x_iload_n hX dX0_range_213 rfl ?_
        refine x_iload_n hX dX0_range_214 rfl ?_
        refine x_iload_n hX dX0_range_215 rfl ?_
        refine x_iload hX dX0_range_216 rfl ?_
        obtain ⟨-, -, -, -, z5, z6, -⟩ := id hpt
        refine x_callV hX (by decide) [vI 5, vI l0, vI u0, vI l1, vI u1] [] (tX0_finish l D dA h q G' sc 5 5 l0 u0 l1 u1 (by omega) (by omega) ⟨by omega, by omega⟩ ⟨by omega, by omega⟩) q142 q144 qs7 q25 q145 (show dsc (xR 0) yX0_finish 5 by decide +kernel) (by decide) rfl (Nat.le_of_ble_eq_true rfl) dX0_range_218 (fun u hu => ?_)
        subst hu
        obtain ⟨gd, frk⟩ := finish_P b0 b1 hpt
        refine x_nmG (fun G2 hG2 => ?_)
        rw [← hG2] at gd frk
        exact hret _ _ _ dX0_range_221 ⟨fun a ha => (frk.2 a ha).trans (fr a ha), rfl, fun k hk => by
          dsimp only
          by_cases k3 : k < 3
          · exact ((g1 k k3).congr (fun a => frk.1 a k (by omega))).weak (by omega) (by omega) (by omega)
          · by_cases k5 : k < 5
            · exact ((g2 k (by omega) k5).congr (fun a => frk.1 a k (by omega))).weak (by omega) (by omega) (by omega)
            · have e5 : k = 5 := by omega
              have e2 : t = 2 := by omega
              subst e5 e2
              exact gd.weak (by omega) (by omega) (by omega)⟩
      · have ht : t < 2 := by omega
        refine x_aload_n hX dX0_range_188 rfl ?_
        refine x_iconst hX dX0_range_189 ?_
        refine x_iload hX dX0_range_190 rfl ?_
        refine x_aload_n hX dX0_range_192 rfl ?_
        refine x_getA hX (by decide) 0 (by decide) q35 dX0_range_193 ?_
        refine x_bipush hX dX0_range_196 (by decide +kernel) ?_
        refine x_iload hX dX0_range_198 rfl ?_
        refine x_iadd hX dX0_range_200 ?_
        refine x_iald hX 0 (14 + (3 + t)) (by decide) (by omega) (show _ < 20 by omega) rfl dX0_range_201 ?_
        have hf : -5 ≤ G' 0 (14 + (3 + t)) ∧ G' 0 (14 + (3 + t)) ≤ 5 := by rw [hN]; exact hB.f _ (by omega) (by unfold isO; omega)
        have gj := g2 (3 + t) (by omega) (by omega)
        obtain ⟨-, z2, -, -, -, -, -, z8, z9⟩ := id gj
        refine x_callV hX (by decide) [vI 5, vI i, vI ((G') 0 (14 + (3 + t)))] [] (tX0_bring l D dA h q G' sc 5 (3 + t) 5 i (G' 0 (14 + (3 + t))) (by omega) (by omega) (by omega) (by omega) (by omega) ⟨by omega, by omega⟩ ⟨by omega, by omega⟩ ⟨by omega, by omega⟩ ⟨by omega, by omega⟩) q138 q140 qs6 q25 q141 (show dsc (xR 0) yX0_bring 3 by decide +kernel) (by decide) rfl (Nat.le_of_ble_eq_true rfl) dX0_range_202 (fun u hu => ?_)
        obtain ⟨pt, frk, hsc⟩ := bring_P b0.2.1 b1.2.1 (by omega) hf hpt gj hu
        obtain ⟨G2, sc2⟩ := u
        dsimp only at pt frk hsc
        subst hsc
        refine x_iinc (vs' := [.ref h, vI l0, vI u0, vI l1, vI u1, vI (i + 1)]) hX dX0_range_205 rfl (by decide) rfl ?_
        refine x_goto (tgt := 182) hX dX0_range_208 (by decide) ?_
        exact ih (t + 1) _ G2 (by omega) (by omega) (by omega) (fun a ha => (frk.2 a ha).trans (fr a ha)) (fun j hj => (g1 j hj).congr (fun a => frk.1 a j (by omega))) (fun j h3 hj => (g2 j h3 hj).congr (fun a => frk.1 a j (by omega))) (pt.weak (by funext x y; rw [hN, nV_2 ht, show 14 + (3 + t) = 17 + t by omega]; rfl) (by omega) (by omega) (by omega))
  have L2i : ∀ (k : Nat) (i : Int), k < 2 → i = ((3 + k : Nat) : Int) → (∀ (G' : Nat → Nat → Int) (i2 : Int), (∀ a : Nat, (a < 2 ∨ 8 ≤ a) → G' a = G a) → (∀ j : Nat, j < 3 → GoodP (nV (G 0) j) G' j l0 u0 l1 u1 5 50 210) → (∀ j : Nat, 3 ≤ j → j < 3 + k → GoodP (nV (G 0) j) G' j l0 u0 l1 u1 75 800 6350) → PartP (s2 (G 0) k) G' (3 + k) l0 u0 l1 u1 75 800 3150 → X (G', sc) 150 [.ref h, vI l0, vI u0, vI l1, vI u1, vI i, vI i2] []) → ∀ (n t : Nat) (i2 : Int) (G' : Nat → Nat → Int), t ≤ 3 → 4 ≤ t + n → i2 = (t : Int) → (∀ a : Nat, (a < 2 ∨ 8 ≤ a) → G' a = G a) → (∀ j : Nat, j < 3 → GoodP (nV (G 0) j) G' j l0 u0 l1 u1 5 50 210) → (∀ j : Nat, 3 ≤ j → j < 3 + k → GoodP (nV (G 0) j) G' j l0 u0 l1 u1 75 800 6350) → PartP (fun x y => ps2 (G 0) k x y t) G' (3 + k) l0 u0 l1 u1 (25 * (t : Int)) (50 + 250 * (t : Int)) (1050 * (t : Int)) → X (G', sc) 113 [.ref h, vI l0, vI u0, vI l1, vI u1, vI i, vI i2] [] := by
    intro k i hk hi kk n
    induction n with
    | zero => intro t i2 G' e1 e2; exact absurd e2 (by omega)
    | succ n ih =>
      intro t i2 G' e1 e2 hi2 fr g1 g2 hpt
      have hN : G' 0 = G 0 := fr 0 (by omega)
      refine x_iload hX dX0_range_113 rfl ?_
      refine x_iconst hX dX0_range_115 ?_
      refine x_icmp_ge (tgt := 150) hX dX0_range_116 (by decide) ⟨by omega, by omega⟩ ⟨by omega, by omega⟩ (fun c1 => ?_) (fun c1 => ?_)
      · have e3 : t = 3 := by omega
        subst e3
        exact kk G' i2 fr g1 g2 (hpt.weak rfl (by omega) (by omega) (by omega))
      · have ht : t < 3 := by omega
        refine x_aload_n hX dX0_range_119 rfl ?_
        refine x_iload hX dX0_range_120 rfl ?_
        refine x_iload hX dX0_range_122 rfl ?_
        refine x_aload_n hX dX0_range_124 rfl ?_
        refine x_getA hX (by decide) 0 (by decide) q35 dX0_range_125 ?_
        refine x_bipush hX dX0_range_128 (by decide +kernel) ?_
        refine x_iconst hX dX0_range_130 ?_
        refine x_iload hX dX0_range_131 rfl ?_
        refine x_iconst hX dX0_range_133 ?_
        refine x_isub hX dX0_range_134 ?_
        refine x_imul hX dX0_range_135 ?_
        refine x_iadd hX dX0_range_136 ?_
        refine x_iload hX dX0_range_137 rfl ?_
        refine x_iadd hX dX0_range_139 ?_
        refine x_iald hX 0 ((9 + (3 * ((3 + k) - 3))) + t) (by decide) (by omega) (show _ < 20 by omega) rfl dX0_range_140 ?_
        have hf : -5 ≤ G' 0 (9 + 3 * ((3 + k) - 3) + t) ∧ G' 0 (9 + 3 * ((3 + k) - 3) + t) ≤ 5 := by rw [hN]; exact hB.f _ (by omega) (by unfold isO; omega)
        have gj := g1 t ht
        obtain ⟨-, z2, -, -, -, -, -, z8, z9⟩ := id gj
        refine x_callV hX (by decide) [vI i, vI i2, vI ((G') 0 ((9 + (3 * ((3 + k) - 3))) + t))] [] (tX0_bring l D dA h q G' sc (3 + k) t i i2 (G' 0 (9 + 3 * ((3 + k) - 3) + t)) (by omega) (by omega) (by omega) (by omega) (by omega) ⟨by omega, by omega⟩ ⟨by omega, by omega⟩ ⟨by omega, by omega⟩ ⟨by omega, by omega⟩) q138 q140 qs6 q25 q141 (show dsc (xR 0) yX0_bring 3 by decide +kernel) (by decide) rfl (Nat.le_of_ble_eq_true rfl) dX0_range_141 (fun u hu => ?_)
        obtain ⟨pt, frk, hsc⟩ := bring_P b0.2.1 b1.2.1 (by omega) hf hpt gj hu
        obtain ⟨G2, sc2⟩ := u
        dsimp only at pt frk hsc
        subst hsc
        refine x_iinc (vs' := [.ref h, vI l0, vI u0, vI l1, vI u1, vI i, vI (i2 + 1)]) hX dX0_range_144 rfl (by decide) rfl ?_
        refine x_goto (tgt := 113) hX dX0_range_147 (by decide) ?_
        exact ih (t + 1) _ G2 (by omega) (by omega) (by omega) (fun a ha => (frk.2 a ha).trans (fr a ha)) (fun j hj => (g1 j hj).congr (fun a => frk.1 a j (by omega))) (fun j h3 hj => (g2 j h3 hj).congr (fun a => frk.1 a j (by omega))) (pt.weak (by funext x y; rw [hN, nV_1 ht, show 9 + 3 * (3 + k - 3) + t = 9 + 3 * k + t by omega]; rfl) (by omega) (by omega) (by omega))
  have L2 : ∀ (n k : Nat) (i : Int) (G' : Nat → Nat → Int), k ≤ 2 → 3 ≤ k + n → i = ((3 + k : Nat) : Int) → (∀ a : Nat, (a < 2 ∨ 8 ≤ a) → G' a = G a) → (∀ j : Nat, j < 3 → GoodP (nV (G 0) j) G' j l0 u0 l1 u1 5 50 210) → (∀ j : Nat, 3 ≤ j → j < 3 + k → GoodP (nV (G 0) j) G' j l0 u0 l1 u1 75 800 6350) → X (G', sc) 88 [.ref h, vI l0, vI u0, vI l1, vI u1, vI i] [] := by
    intro n
    induction n with
    | zero => intro k i G' e1 e2; exact absurd e2 (by omega)
    | succ n ih =>
      intro k i G' e1 e2 hi fr g1 g2
      have hN : G' 0 = G 0 := fr 0 (by omega)
      refine x_iload hX dX0_range_88 rfl ?_
      refine x_iconst hX dX0_range_90 ?_
      refine x_icmp_ge (tgt := 167) hX dX0_range_91 (by decide) ⟨by omega, by omega⟩ ⟨by omega, by omega⟩ (fun c1 => ?_) (fun c1 => ?_)
      · have hk9 : k = 2 := by omega
        refine x_aload_n hX dX0_range_167 rfl ?_
        refine x_iconst hX dX0_range_168 ?_
        refine x_aload_n hX dX0_range_169 rfl ?_
        refine x_getA hX (by decide) 0 (by decide) q35 dX0_range_170 ?_
        refine x_bipush hX dX0_range_173 (by decide +kernel) ?_
        refine x_iald hX 0 19 (by decide) (by omega) (show _ < 20 by omega) rfl dX0_range_175 ?_
        have ho : -50 ≤ G' 0 19 ∧ G' 0 19 ≤ 50 := by rw [hN]; exact hB.o _ (by omega)
        refine x_callV hX (by decide) [vI 5, vI ((G') 0 19)] [] (tX0_begin l D dA h q G' sc 5 5 (G' 0 19) (by omega) (by omega)) q134 q136 qs5 q25 q137 (show dsc (xR 0) yX0_begin 2 by decide +kernel) (by decide) rfl (Nat.le_of_ble_eq_true rfl) dX0_range_176 (fun u hu => ?_)
        subst hu
        obtain ⟨pt, frk⟩ := begin_P (G := G') (k := 5) (l0 := l0) (h0 := u0) (l1 := l1) (h1 := u1) ho
        refine x_nmG (fun G2 hG2 => ?_)
        rw [← hG2] at pt frk
        
        refine x_iconst hX dX0_range_179 ?_
        refine x_istore (vs' := [.ref h, vI l0, vI u0, vI l1, vI u1, vI 3]) hX dX0_range_180 ⟨Nat.le_of_ble_eq_true rfl, Nat.le_of_ble_eq_true rfl⟩ rfl ?_
        exact L3 3 0 _ G2 (by omega) (by omega) rfl (fun a ha => (frk.2 a ha).trans (fr a ha)) (fun j hj => (g1 j hj).congr (fun a => frk.1 a j (by omega))) (fun j h3 hj => (g2 j h3 (by omega)).congr (fun a => frk.1 a j (by omega))) (pt.weak (by rw [hN]; rfl) (by omega) (by omega) (by omega))
      · have hk2 : k < 2 := by omega
        refine x_aload_n hX dX0_range_94 rfl ?_
        refine x_iload hX dX0_range_95 rfl ?_
        refine x_aload_n hX dX0_range_97 rfl ?_
        refine x_getA hX (by decide) 0 (by decide) q35 dX0_range_98 ?_
        refine x_bipush hX dX0_range_101 (by decide +kernel) ?_
        refine x_iload hX dX0_range_103 rfl ?_
        refine x_iadd hX dX0_range_105 ?_
        refine x_iald hX 0 (12 + (3 + k)) (by decide) (by omega) (show _ < 20 by omega) rfl dX0_range_106 ?_
        have ho : -50 ≤ G' 0 (12 + (3 + k)) ∧ G' 0 (12 + (3 + k)) ≤ 50 := by rw [hN]; exact hB.o _ (by omega)
        refine x_callV hX (by decide) [vI i, vI ((G') 0 (12 + (3 + k)))] [] (tX0_begin l D dA h q G' sc (3 + k) i (G' 0 (12 + (3 + k))) (by omega) (by omega)) q134 q136 qs5 q25 q137 (show dsc (xR 0) yX0_begin 2 by decide +kernel) (by decide) rfl (Nat.le_of_ble_eq_true rfl) dX0_range_107 (fun u hu => ?_)
        subst hu
        obtain ⟨pt, frk⟩ := begin_P (G := G') (k := (3 + k)) (l0 := l0) (h0 := u0) (l1 := l1) (h1 := u1) ho
        refine x_nmG (fun G2 hG2 => ?_)
        rw [← hG2] at pt frk
        
        refine x_iconst hX dX0_range_110 ?_
        refine x_istore (vs' := [.ref h, vI l0, vI u0, vI l1, vI u1, vI i, vI 0]) hX dX0_range_111 ⟨Nat.le_of_ble_eq_true rfl, Nat.le_of_ble_eq_true rfl⟩ rfl ?_
        refine L2i k i hk2 hi ?_ 4 0 0 G2 (by omega) (by omega) rfl (fun a ha => (frk.2 a ha).trans (fr a ha)) (fun j hj => (g1 j hj).congr (fun a => frk.1 a j (by omega))) (fun j h3 hj => (g2 j h3 hj).congr (fun a => frk.1 a j (by omega))) (pt.weak (by rw [hN, show 12 + (3 + k) = 15 + k by omega]; rfl) (by omega) (by omega) (by omega))
        clear pt frk hG2 fr g1 g2 ho hN
        clear G2 G'
        intro G' i2 fr g1 g2 hpt
        refine x_aload_n hX dX0_range_150 rfl ?_
        refine x_iload hX dX0_range_151 rfl ?_
        refine x_iload_n hX dX0_range_153 rfl ?_
        refine x_iload_n hX dX0_range_154 rfl ?_
        refine x_iload_n hX dX0_range_155 rfl ?_
        refine x_iload hX dX0_range_156 rfl ?_
        obtain ⟨-, -, -, -, z5, z6, -⟩ := id hpt
        refine x_callV hX (by decide) [vI i, vI l0, vI u0, vI l1, vI u1] [] (tX0_finish l D dA h q G' sc (3 + k) i l0 u0 l1 u1 (by omega) (by omega) ⟨by omega, by omega⟩ ⟨by omega, by omega⟩) q142 q144 qs7 q25 q145 (show dsc (xR 0) yX0_finish 5 by decide +kernel) (by decide) rfl (Nat.le_of_ble_eq_true rfl) dX0_range_158 (fun u hu => ?_)
        subst hu
        obtain ⟨gd, frk⟩ := finish_P b0 b1 hpt
        refine x_nmG (fun G2 hG2 => ?_)
        rw [← hG2] at gd frk
        refine x_iinc (vs' := [.ref h, vI l0, vI u0, vI l1, vI u1, vI (i + 1), vI i2]) hX dX0_range_161 rfl (by decide) rfl ?_
        refine x_goto (tgt := 88) hX dX0_range_164 (by decide) ?_
        refine x_take hX 6 (vs' := [.ref h, vI l0, vI u0, vI l1, vI u1, vI (i + 1)]) rfl ?_
        exact ih (k + 1) _ _ (by omega) (by omega) (by omega) (fun a ha => (frk.2 a ha).trans (fr a ha)) (fun j hj => (g1 j hj).congr (fun a => frk.1 a j (by omega))) (fun j h3 hj => by
          by_cases ej : j = 3 + k
          · subst ej
            rw [nV_2 hk2]
            exact gd
          · exact (g2 j h3 (by omega)).congr (fun a => frk.1 a j ej))
  have L1 : ∀ (n k : Nat) (i : Int) (G' : Nat → Nat → Int), k ≤ 3 → 4 ≤ k + n → i = (k : Int) → (∀ a : Nat, (a < 2 ∨ 8 ≤ a) → G' a = G a) → (∀ j : Nat, j < k → GoodP (nV (G 0) j) G' j l0 u0 l1 u1 5 50 210) → X (G', sc) 3 [.ref h, vI l0, vI u0, vI l1, vI u1, vI i] [] := by
    intro n
    induction n with
    | zero => intro k i G' e1 e2; exact absurd e2 (by omega)
    | succ n ih =>
      intro k i G' e1 e2 hi fr g1
      have hN : G' 0 = G 0 := fr 0 (by omega)
      refine x_iload hX dX0_range_3 rfl ?_
      refine x_iconst hX dX0_range_5 ?_
      refine x_icmp_ge (tgt := 85) hX dX0_range_6 (by decide) ⟨by omega, by omega⟩ ⟨by omega, by omega⟩ (fun c1 => ?_) (fun c1 => ?_)
      · refine x_iconst hX dX0_range_85 ?_
        refine x_istore (vs' := [.ref h, vI l0, vI u0, vI l1, vI u1, vI 3]) hX dX0_range_86 ⟨Nat.le_of_ble_eq_true rfl, Nat.le_of_ble_eq_true rfl⟩ rfl ?_
        exact L2 3 0 _ G' (by omega) (by omega) rfl fr (fun j hj => g1 j (by omega)) (fun j h3 hj => absurd hj (by omega))
      · have hk3 : k < 3 := by omega
        refine x_aload_n hX dX0_range_9 rfl ?_
        refine x_getA hX (by decide) 4 (by decide) q39 dX0_range_10 ?_
        refine x_iload hX dX0_range_13 rfl ?_
        refine x_aload_n hX dX0_range_15 rfl ?_
        refine x_getA hX (by decide) 0 (by decide) q35 dX0_range_16 ?_
        refine x_iconst hX dX0_range_19 ?_
        refine x_iload hX dX0_range_20 rfl ?_
        refine x_imul hX dX0_range_22 ?_
        refine x_iald hX 0 (2 * k) (by decide) (by omega) (show _ < 20 by omega) rfl dX0_range_23 ?_
        refine x_iast hX 4 k (by decide) (by omega) (show _ < 6 by omega) dX0_range_24 ?_
        refine x_aload_n hX dX0_range_25 rfl ?_
        refine x_getA hX (by decide) 5 (by decide) q40 dX0_range_26 ?_
        refine x_iload hX dX0_range_29 rfl ?_
        refine x_aload_n hX dX0_range_31 rfl ?_
        refine x_getA hX (by decide) 0 (by decide) q35 dX0_range_32 ?_
        refine x_iconst hX dX0_range_35 ?_
        refine x_iload hX dX0_range_36 rfl ?_
        refine x_imul hX dX0_range_38 ?_
        refine x_iconst hX dX0_range_39 ?_
        refine x_iadd hX dX0_range_40 ?_
        refine x_iald (v := (G') 0 ((2 * k) + 1)) hX 0 ((2 * k) + 1) (by decide) (by omega) (show _ < 20 by omega) (by simp [gu]) dX0_range_41 ?_
        refine x_iast hX 5 k (by decide) (by omega) (show _ < 6 by omega) dX0_range_42 ?_
        refine x_aload_n hX dX0_range_43 rfl ?_
        refine x_getA hX (by decide) 6 (by decide) q41 dX0_range_44 ?_
        refine x_iload hX dX0_range_47 rfl ?_
        refine x_aload_n hX dX0_range_49 rfl ?_
        refine x_getA hX (by decide) 0 (by decide) q35 dX0_range_50 ?_
        refine x_bipush hX dX0_range_53 (by decide +kernel) ?_
        refine x_iload hX dX0_range_55 rfl ?_
        refine x_iadd hX dX0_range_57 ?_
        refine x_iald (v := (G') 0 (6 + k)) hX 0 (6 + k) (by decide) (by omega) (show _ < 20 by omega) (by simp [gu]) dX0_range_58 ?_
        refine x_iast hX 6 k (by decide) (by omega) (show _ < 6 by omega) dX0_range_59 ?_
        refine x_aload_n hX dX0_range_60 rfl ?_
        refine x_getA hX (by decide) 7 (by decide) q42 dX0_range_61 ?_
        refine x_iload hX dX0_range_64 rfl ?_
        refine x_iconst hX dX0_range_66 ?_
        refine x_zast hX 7 k (by decide) (by omega) (show _ < 6 by omega) (by omega) dX0_range_67 ?_
        refine x_nmG (fun G2 hG2 => ?_)
        have f2 : FrK G' G2 k := by rw [hG2]; exact FrK.gu (FrK.gu (FrK.gu (FrK.gu (FrK.rf G' k) _ (by omega)) _ (by omega)) _ (by omega)) _ (by omega)
        have hN2 : G2 0 = G 0 := (f2.2 0 (by omega)).trans hN
        have e4 : G2 4 k = G 0 (2 * k) := by rw [hG2, ← hN]; simp [gu]
        have e5 : G2 5 k = G 0 (2 * k + 1) := by rw [hG2, ← hN]; simp [gu]
        have e6 : G2 6 k = G 0 (6 + k) := by rw [hG2, ← hN]; simp [gu]
        have e7 : G2 7 k = 1 := by rw [hG2]; simp [gu]
        have z5 := hB.f (2 * k) (by omega) (by unfold isO; omega)
        have z6 := hB.f (2 * k + 1) (by omega) (by unfold isO; omega)
        rw [← e4] at z5
        rw [← e5] at z6
        clear hG2
        refine x_aload_n hX dX0_range_68 rfl ?_
        refine x_iload hX dX0_range_69 rfl ?_
        refine x_iload_n hX dX0_range_71 rfl ?_
        refine x_iload_n hX dX0_range_72 rfl ?_
        refine x_iload_n hX dX0_range_73 rfl ?_
        refine x_iload hX dX0_range_74 rfl ?_
        refine x_callV hX (by decide) [vI i, vI l0, vI u0, vI l1, vI u1] [] (tX0_exact l D dA h q G2 sc k i l0 u0 l1 u1 hi (by omega) ⟨by omega, by omega⟩ ⟨by omega, by omega⟩) q130 q132 qs4 q25 q133 (show dsc (xR 0) yX0_exact 5 by decide +kernel) (by decide) rfl (Nat.le_of_ble_eq_true rfl) dX0_range_76 (fun u hu => ?_)
        subst hu
        obtain ⟨gd, frk⟩ := exact_P hB hN2 hk3 b0 b1 e4 e5 e6 e7
        refine x_nmG (fun G3 hG3 => ?_)
        rw [← hG3] at gd frk
        refine x_iinc (vs' := [.ref h, vI l0, vI u0, vI l1, vI u1, vI (i + 1)]) hX dX0_range_79 rfl (by decide) rfl ?_
        refine x_goto (tgt := 3) hX dX0_range_82 (by decide) ?_
        exact ih (k + 1) _ G3 (by omega) (by omega) (by omega) (fun a ha => ((frk.2 a ha).trans (f2.2 a ha)).trans (fr a ha)) (fun j hj => by
          by_cases ej : j = k
          · subst ej
            exact gd
          · exact (g1 j (by omega)).congr (fun a => (frk.1 a j ej).trans (f2.1 a j ej)))
  refine x_iconst hX dX0_range_0 ?_
  refine x_istore (vs' := [.ref h, vI l0, vI u0, vI l1, vI u1, vI 0]) hX dX0_range_1 ⟨Nat.le_of_ble_eq_true rfl, Nat.le_of_ble_eq_true rfl⟩ rfl ?_
  exact L1 4 0 0 G (by omega) (by omega) rfl (fun _ _ => rfl) (fun j hj => absurd hj (by omega))
end
section
set_option maxRecDepth 100000
/-- boxes -/
def inBx (L R B T x y : Int) : Prop := L ≤ x ∧ x ≤ R ∧ B ≤ y ∧ y ≤ T
def Bx (G : Nat → Nat → Int) (n : Nat) (L R B T : Int) : Prop := G 8 n = L ∧ G 9 n = R ∧ G 10 n = B ∧ G 11 n = T
def Dp (d : Nat) (L R B T : Int) : Prop := (-16 ≤ L ∧ L ≤ R ∧ R ≤ 15) ∧ (-16 ≤ B ∧ B ≤ T ∧ T ≤ 15) ∧ ∃ p r : Nat, p + r = d ∧ R - L + 1 ≤ ((2 ^ p : Nat) : Int) ∧ T - B + 1 ≤ ((2 ^ r : Nat) : Int)
def sb : Nat → Nat
  | 0 => 1
  | d + 1 => 2 * sb d + 1
theorem sb_10 : sb 10 = 2047 := by decide
theorem sb_pos (d : Nat) : 1 ≤ sb d := by cases d <;> simp [sb]
def SameB (n : Nat) (G G' : Nat → Nat → Int) : Prop := ∀ a i : Nat, 8 ≤ a → i < n → G' a i = G a i
theorem SameB.rf {n : Nat} {G : Nat → Nat → Int} : SameB n G G := fun _ _ _ _ => rfl
theorem SameB.tr {n : Nat} {G G1 G2 : Nat → Nat → Int} (h1 : SameB n G G1) (h2 : SameB n G1 G2) : SameB n G G2 := fun a i ha hi => (h2 a i ha hi).trans (h1 a i ha hi)
theorem SameB.le {n m : Nat} {G G1 : Nat → Nat → Int} (h1 : SameB n G G1) (h : m ≤ n) : SameB m G G1 := fun a i ha hi => h1 a i ha (by omega)
theorem Bx.same {n i : Nat} {G G1 : Nat → Nat → Int} {L R B T : Int} (h : Bx G i L R B T) (hs : SameB n G G1) (hi : i < n) : Bx G1 i L R B T := by
  unfold Bx
  rw [hs 8 i (by omega) hi, hs 9 i (by omega) hi, hs 10 i (by omega) hi, hs 11 i (by omega) hi]
  exact h
theorem Bx.rows {i : Nat} {G G1 : Nat → Nat → Int} {L R B T : Int} (h : Bx G i L R B T) (hs : ∀ a : Nat, (a < 2 ∨ 8 ≤ a) → G1 a = G a) : Bx G1 i L R B T := by
  unfold Bx
  rw [hs 8 (by omega), hs 9 (by omega), hs 10 (by omega), hs 11 (by omega)]
  exact h
theorem Dp.cut0 {d : Nat} {L R B T : Int} (h : Dp d L R B T) (hl : L < R) : ∃ d', d = d' + 1 ∧ Dp d' L ((L + R) / 2) B T ∧ Dp d' ((L + R) / 2 + 1) R B T := by
  obtain ⟨h0, h1, p, r, e, hp, hr⟩ := h
  cases p with
  | zero => simp at hp; omega
  | succ p =>
    rw [Nat.pow_succ] at hp
    exact ⟨p + r, by omega, ⟨by omega, h1, p, r, rfl, by omega, hr⟩, ⟨by omega, h1, p, r, rfl, by omega, hr⟩⟩
theorem Dp.cut1 {d : Nat} {L R B T : Int} (h : Dp d L R B T) (hl : B < T) : ∃ d', d = d' + 1 ∧ Dp d' L R B ((B + T) / 2) ∧ Dp d' L R ((B + T) / 2 + 1) T := by
  obtain ⟨h0, h1, p, r, e, hp, hr⟩ := h
  cases r with
  | zero => simp at hr; omega
  | succ r =>
    rw [Nat.pow_succ] at hr
    exact ⟨p + r, by omega, ⟨h0, by omega, p, r, rfl, hp, by omega⟩, ⟨h0, by omega, p, r, rfl, hp, by omega⟩⟩
/-- what a cut leaves: two boxes, the lesser one on top -/
theorem cut_P {G : Nat → Nat → Int} {n d : Nat} {i wt bs L R B T : Int} {u : xU} (hb : Bx G n L R B T) (hd : Dp d L R B T) (hnp : ¬ (L = R ∧ B = T))
    (hu : (G 8 n < G 9 n ∧ u = (gu (gu (gu (gu (gu (gu G 8 (n + 1) (G 8 n)) 9 (n + 1) ((G 8 n + G 9 n) / 2)) 10 (n + 1) (G 10 n)) 11 (n + 1) (G 11 n)) 8 n ((G 8 n + G 9 n) / 2 + 1)) 10 n (G 10 n), [i + 2, bs])) ∨ (G 9 n ≤ G 8 n ∧ G 10 n = G 11 n ∧ u = (G, [wt, bs])) ∨ (G 9 n ≤ G 8 n ∧ G 10 n ≠ G 11 n ∧ u = (gu (gu (gu (gu (gu (gu G 8 (n + 1) (G 8 n)) 9 (n + 1) (G 9 n)) 10 (n + 1) (G 10 n)) 11 (n + 1) ((G 10 n + G 11 n) / 2)) 8 n (G 8 n)) 10 n ((G 10 n + G 11 n) / 2 + 1), [i + 2, bs]))) :
    ∃ (d' : Nat) (L1 R1 B1 T1 L2 R2 B2 T2 : Int), d = d' + 1 ∧ u.2 = [i + 2, bs] ∧ Bx u.1 (n + 1) L1 R1 B1 T1 ∧ Bx u.1 n L2 R2 B2 T2 ∧ Dp d' L1 R1 B1 T1 ∧ Dp d' L2 R2 B2 T2 ∧ SameB n G u.1 ∧ (∀ a : Nat, a < 8 → u.1 a = G a) ∧
      (∀ x y : Int, inBx L R B T x y ↔ inBx L1 R1 B1 T1 x y ∨ inBx L2 R2 B2 T2 x y) ∧ (∀ x y x' y' : Int, inBx L1 R1 B1 T1 x y → inBx L2 R2 B2 T2 x' y' → x < x' ∨ (x = x' ∧ y < y')) := by
  obtain ⟨rfl, rfl, rfl, rfl⟩ := hb
  have hr0 := hd.1
  have hr1 := hd.2.1
  rcases hu with ⟨c, rfl⟩ | ⟨c1, c2, rfl⟩ | ⟨c1, c2, rfl⟩
  · obtain ⟨d', e, h1, h2⟩ := hd.cut0 c
    refine ⟨d', _, _, _, _, _, _, _, _, e, rfl, ?_, ?_, h1, h2, ?_, ?_, ?_, ?_⟩
    · simp [Bx, gu]
    · simp [Bx, gu]
    · intro a j ha hj
      have e1 : j ≠ n := by omega
      have e2 : j ≠ n + 1 := by omega
      simp [gu, e1, e2]
    · intro a ha
      have q1 : a ≠ 8 := by omega
      have q2 : a ≠ 9 := by omega
      have q3 : a ≠ 10 := by omega
      have q4 : a ≠ 11 := by omega
      funext b
      simp [gu, q1, q2, q3, q4]
    · intro x y
      unfold inBx
      omega
    · intro x y x' y'
      unfold inBx
      omega
  · exact absurd ⟨by omega, c2⟩ hnp
  · obtain ⟨d', e, h1, h2⟩ := hd.cut1 (show G 10 n < G 11 n by omega)
    refine ⟨d', _, _, _, _, _, _, _, _, e, rfl, ?_, ?_, h1, h2, ?_, ?_, ?_, ?_⟩
    · simp [Bx, gu]
    · simp [Bx, gu]
    · intro a j ha hj
      have e1 : j ≠ n := by omega
      have e2 : j ≠ n + 1 := by omega
      simp [gu, e1, e2]
    · intro a ha
      have q1 : a ≠ 8 := by omega
      have q2 : a ≠ 9 := by omega
      have q3 : a ≠ 10 := by omega
      have q4 : a ≠ 11 := by omega
      funext b
      simp [gu, q1, q2, q3, q4]
    · intro x y
      unfold inBx
      omega
    · intro x y x' y'
      unfold inBx
      omega
/-- linear ranges are reached -/
theorem GoodP.hit {P : Int → Int → Int} {G : Nat → Nat → Int} {k : Nat} {L R B T bf br bl : Int} (h : GoodP P G k L R B T bf br bl) (hl : L ≤ R) (hb : B ≤ T) (h7 : G 7 k = 1) :
    (∃ x y : Int, inBx L R B T x y ∧ P x y = G 3 k) ∧ ∃ x y : Int, inBx L R B T x y ∧ P x y = G 2 k := by
  obtain ⟨e1, e2, e3⟩ := h.2.2.1 h7
  rw [e2, e3]
  unfold mxL mnL
  constructor
  · refine ⟨if 0 < G 4 k then R else L, if 0 < G 5 k then T else B, ?_, ?_⟩
    · unfold inBx
      refine ⟨?_, ?_, ?_, ?_⟩ <;> split <;> omega
    · rw [e1 _ _ (by split <;> omega) (by split <;> omega) (by split <;> omega) (by split <;> omega)]
      split <;> split <;> omega
  · refine ⟨if 0 < G 4 k then L else R, if 0 < G 5 k then B else T, ?_, ?_⟩
    · unfold inBx
      refine ⟨?_, ?_, ?_, ?_⟩ <;> split <;> omega
    · rw [e1 _ _ (by split <;> omega) (by split <;> omega) (by split <;> omega) (by split <;> omega)]
      split <;> split <;> omega
theorem GoodP.rng {P : Int → Int → Int} {G : Nat → Nat → Int} {k : Nat} {L R B T bf br bl : Int} (h : GoodP P G k L R B T bf br bl) {x y : Int} (hx : inBx L R B T x y) : G 2 k ≤ P x y ∧ P x y ≤ G 3 k := h.1 x y hx.1 hx.2.1 hx.2.2.1 hx.2.2.2
/-- a code of an interval -/
def okI (f : Int) : Prop := 0 ≤ f ∧ f ≤ 1023 ∧ f / 32 ≤ f % 32
/-- the box of two codes -/
def cBx (f s x y : Int) : Prop := inBx (f / 32 - 16) (f % 32 - 16) (s / 32 - 16) (s % 32 - 16) x y
theorem okI.dp {f s : Int} (hf : okI f) (hs : okI s) : Dp 10 (f / 32 - 16) (f % 32 - 16) (s / 32 - 16) (s % 32 - 16) := by
  obtain ⟨a1, a2, a3⟩ := hf
  obtain ⟨b1, b2, b3⟩ := hs
  exact ⟨by omega, by omega, 5, 5, rfl, by simp; omega, by simp; omega⟩
end
section
set_option maxRecDepth 100000
set_option maxHeartbeats 4000000 in
theorem tX0_extreme (l : Launch) (D : va_G) (dA : Bool → ClassId) (h : Nat) (q : Nat → Nat) (G : Nat → Nat → Int) (wt bs : Int) (f s ti sg : Int) (tg : Nat) (hti : ti = (tg : Int)) (htg : tg < 6) (hsg : sg = 1 ∨ sg = -1) (hB : NB (G 0)) (hf : okI f) (hs : okI s) : XM l yX0_extreme cX0_extreme 8 (some .int) 3 D dA (xw 0 dA h q) [.ref h, vI f, vI s, vI ti, vI sg] (G, [wt, bs]) (fun r u => (∀ x y : Int, cBx f s x y → sg * nV (G 0) tg x y ≤ r) ∧ (∃ x y : Int, cBx f s x y ∧ r = sg * nV (G 0) tg x y) ∧ u.1 0 = G 0 ∧ ∃ w2 b2 : Int, u.2 = [w2, b2]) := by
  refine XM.of (by decide +kernel) (by simp [Value.category]) (Nat.le_of_ble_eq_true rfl) ?_
  intro X hX hret
  have hX : XOK l (xR 0) cX0_extreme 8 (rmL 3) D dA (xw 0 dA h q) X := hX
  have hf' := id hf
  have hs' := id hs
  obtain ⟨f1, f2, f3⟩ := hf'
  obtain ⟨s1', s2', s3'⟩ := hs'
  have BB : ∀ (d n : Nat) (L R B T : Int) (G' : Nat → Nat → Int) (bs : Int) (st : Nat), Bx G' n L R B T → Dp d L R B T → n + d ≤ 10 → st + sb d ≤ 2047 → (-95550 ≤ bs ∧ bs ≤ 95550) → G' 0 = G 0 → (∀ (G2 : Nat → Nat → Int) (bs' : Int) (st' : Nat), G2 0 = G 0 → SameB n G' G2 → bs ≤ bs' → (-95550 ≤ bs' ∧ bs' ≤ 95550) → (∀ x y : Int, inBx L R B T x y → sg * nV (G 0) tg x y ≤ bs') → (bs' = bs ∨ ∃ x y : Int, inBx L R B T x y ∧ bs' = sg * nV (G 0) tg x y) → st' ≤ st + sb d → ∀ i' w' : Int, i' = (st' : Int) → w' = (n : Int) → X (G2, [w', bs']) 38 [.ref h, vI f, vI s, vI ti, vI sg, vI i'] []) → ∀ i w : Int, i = (st : Int) → w = (n : Int) + 1 → X (G', [w, bs]) 38 [.ref h, vI f, vI s, vI ti, vI sg, vI i] [] := by
    intro d
    induction d using Nat.strongRecOn with
    | _ d ih =>
      intro n L R B T G' bs st hb hd hn hst hbs hN kk i w hi hw
      have hsp := sb_pos d
      have d0 := hd.1
      have d1 := hd.2.1
      refine x_iload hX dX0_extreme_38 rfl ?_
      refine x_sipush hX dX0_extreme_40 (by decide +kernel) ?_
      refine x_icmp_ge (tgt := 172) hX dX0_extreme_43 (by decide) ⟨by omega, by omega⟩ ⟨by omega, by omega⟩ (fun c1 => absurd c1 (by omega)) (fun c1 => ?_)
      refine x_aload_n hX dX0_extreme_46 rfl ?_
      refine x_getS hX (by decide) 0 rfl (by decide) q47 dX0_extreme_47 ?_
      refine x_if_le (tgt := 172) hX dX0_extreme_50 (by decide) ⟨by omega, by omega⟩ (fun c2 => absurd c2 (by omega)) (fun c2 => ?_)
      refine x_aload_n hX dX0_extreme_53 rfl ?_
      refine x_dup hX dX0_extreme_54 rfl ?_
      refine x_getS hX (by decide) 0 rfl (by decide) q47 dX0_extreme_55 ?_
      refine x_iconst hX dX0_extreme_58 ?_
      refine x_isub hX dX0_extreme_59 ?_
      refine x_putS (sc' := [w - 1, bs]) hX (by decide) 0 rfl (by decide) rfl (by decide +kernel) q47 dX0_extreme_60 rfl ?_
      refine x_aload_n hX dX0_extreme_63 rfl ?_
      refine x_getS hX (by decide) 0 rfl (by decide) q47 dX0_extreme_64 ?_
      refine x_istore (vs' := [.ref h, vI f, vI s, vI ti, vI sg, vI i, vI (w - 1)]) hX dX0_extreme_67 ⟨Nat.le_of_ble_eq_true rfl, Nat.le_of_ble_eq_true rfl⟩ rfl ?_
      refine x_aload_n hX dX0_extreme_69 rfl ?_
      refine x_aload_n hX dX0_extreme_70 rfl ?_
      refine x_getA hX (by decide) 8 (by decide) q43 dX0_extreme_71 ?_
      refine x_iload hX dX0_extreme_74 rfl ?_
      refine x_iald hX 8 n (by decide) (by omega) (show _ < 16 by omega) rfl dX0_extreme_76 ?_
      refine x_aload_n hX dX0_extreme_77 rfl ?_
      refine x_getA hX (by decide) 9 (by decide) q44 dX0_extreme_78 ?_
      refine x_iload hX dX0_extreme_81 rfl ?_
      refine x_iald hX 9 n (by decide) (by omega) (show _ < 16 by omega) rfl dX0_extreme_83 ?_
      refine x_aload_n hX dX0_extreme_84 rfl ?_
      refine x_getA hX (by decide) 10 (by decide) q45 dX0_extreme_85 ?_
      refine x_iload hX dX0_extreme_88 rfl ?_
      refine x_iald hX 10 n (by decide) (by omega) (show _ < 16 by omega) rfl dX0_extreme_90 ?_
      refine x_aload_n hX dX0_extreme_91 rfl ?_
      refine x_getA hX (by decide) 11 (by decide) q46 dX0_extreme_92 ?_
      refine x_iload hX dX0_extreme_95 rfl ?_
      refine x_iald hX 11 n (by decide) (by omega) (show _ < 16 by omega) rfl dX0_extreme_97 ?_
      refine x_callV hX (by decide) [vI ((G') 8 n), vI ((G') 9 n), vI ((G') 10 n), vI ((G') 11 n)] [] (tX0_range l D dA h q _ _ _ _ _ _ (by rw [hN]; exact hB) (by rw [hb.1, hb.2.1]; omega) (by rw [hb.2.2.1, hb.2.2.2]; omega)) q126 q128 qs3 q25 q129 (show dsc (xR 0) yX0_range 4 by decide +kernel) (by decide) rfl (Nat.le_of_ble_eq_true rfl) dX0_extreme_98 (fun u hu => ?_)
      obtain ⟨G2, sc2⟩ := u
      obtain ⟨fr, hsc, hR⟩ := hu
      dsimp only at fr hsc hR
      subst hsc
      rw [hN, hb.1, hb.2.1, hb.2.2.1, hb.2.2.2] at hR
      have hN2 : G2 0 = G 0 := (fr 0 (by omega)).trans hN
      have hb2 := hb.rows fr
      have hs2 : SameB n G' G2 := fun a i ha hi => by rw [fr a (by omega)]
      have gt := hR tg htg
      obtain ⟨-, t2, -, t4, -, -, -, t8, t9⟩ := id gt
      have key : ∀ bnd : Int, (-95550 ≤ bnd ∧ bnd ≤ 95550) → (∀ x y : Int, inBx L R B T x y → sg * nV (G 0) tg x y ≤ bnd) → (G2 7 tg = 1 → ∃ x y : Int, inBx L R B T x y ∧ bnd = sg * nV (G 0) tg x y) → X (G2, [w - 1, bs]) 122 [.ref h, vI f, vI s, vI ti, vI sg, vI i, vI (w - 1)] [vI bnd] := by
        intro bnd k1 k2 k3
        refine x_istore (vs' := [.ref h, vI f, vI s, vI ti, vI sg, vI i, vI (w - 1), vI bnd]) hX dX0_extreme_122 ⟨Nat.le_of_ble_eq_true rfl, Nat.le_of_ble_eq_true rfl⟩ rfl ?_
        refine x_iload hX dX0_extreme_124 rfl ?_
        refine x_aload_n hX dX0_extreme_126 rfl ?_
        refine x_getS hX (by decide) 1 rfl (by decide) q48 dX0_extreme_127 ?_
        refine x_icmp_le (tgt := 166) hX dX0_extreme_130 (by decide) ⟨by omega, by omega⟩ ⟨by omega, by omega⟩ (fun c1 => ?_) (fun c1 => ?_)
        · refine x_iinc (vs' := [.ref h, vI f, vI s, vI ti, vI sg, vI (i + 1), vI (w - 1), vI bnd]) hX dX0_extreme_166 rfl (by decide) rfl ?_
          refine x_goto (tgt := 38) hX dX0_extreme_169 (by decide) ?_
          refine x_take hX 6 (vs' := [.ref h, vI f, vI s, vI ti, vI sg, vI (i + 1)]) rfl ?_
          exact kk G2 bs (st + 1) hN2 hs2 (by omega) hbs (fun x y hx => by have := k2 x y hx; omega) (Or.inl rfl) (by omega) _ _ (by omega) (by omega)
        · refine x_aload_n hX dX0_extreme_133 rfl ?_
          refine x_getA hX (by decide) 7 (by decide) q42 dX0_extreme_134 ?_
          refine x_iload_n hX dX0_extreme_137 rfl ?_
          refine x_zald hX 7 tg (by decide) (by omega) (show _ < 6 by omega) rfl dX0_extreme_138 ?_
          refine x_if_ne (tgt := 151) hX dX0_extreme_139 (by decide) ⟨by omega, by omega⟩ (fun c2 => ?_) (fun c2 => ?_)
          · refine x_aload_n hX dX0_extreme_151 rfl ?_
            refine x_iload hX dX0_extreme_152 rfl ?_
            refine x_putS (sc' := [w - 1, bnd]) hX (by decide) 1 rfl (by decide) rfl (by decide +kernel) q48 dX0_extreme_154 rfl ?_
            refine x_goto (tgt := 166) hX dX0_extreme_157 (by decide) ?_
            refine x_iinc (vs' := [.ref h, vI f, vI s, vI ti, vI sg, vI (i + 1), vI (w - 1), vI bnd]) hX dX0_extreme_166 rfl (by decide) rfl ?_
            refine x_goto (tgt := 38) hX dX0_extreme_169 (by decide) ?_
            refine x_take hX 6 (vs' := [.ref h, vI f, vI s, vI ti, vI sg, vI (i + 1)]) rfl ?_
            exact kk G2 bnd (st + 1) hN2 hs2 (by omega) k1 k2 (Or.inr (k3 (by clear k3; omega))) (by omega) _ _ (by omega) (by omega)
          · refine x_aload_n hX dX0_extreme_142 rfl ?_
            refine x_iload hX dX0_extreme_143 rfl ?_
            refine x_callI hX (by decide) [vI (w - 1)] [] (tX0_isPoint l D dA h q G2 _ n (w - 1) (by omega) (by omega) (by rw [hb2.1]; constructor <;> omega) (by rw [hb2.2.1]; constructor <;> omega) (by rw [hb2.2.2.1]; constructor <;> omega) (by rw [hb2.2.2.2]; constructor <;> omega)) q146 q148 qs8 q25 q149 (show dsc (xR 0) yX0_isPoint 1 by decide +kernel) (by decide) rfl (Nat.le_of_ble_eq_true rfl) dX0_extreme_145 (fun r u hu => ?_)
            obtain ⟨hp, rfl⟩ := hu
            rw [hb2.1, hb2.2.1, hb2.2.2.1, hb2.2.2.2] at hp
            refine x_if_eq (tgt := 160) hX dX0_extreme_148 (by decide) ⟨by omega, by omega⟩ (fun c3 => ?_) (fun c3 => ?_)
            · refine x_aload_n hX dX0_extreme_160 rfl ?_
              refine x_iload hX dX0_extreme_161 rfl ?_
              refine x_callV hX (by decide) [vI (w - 1)] [] (tX0_cut l D dA h q G2 _ bs n (w - 1) (by omega) (by omega) (by rw [hb2.1]; omega) (by rw [hb2.2.1]; omega) (by rw [hb2.2.2.1]; omega) (by rw [hb2.2.2.2]; omega)) q150 q152 qs9 q25 q153 (show dsc (xR 0) yX0_cut 1 by decide +kernel) (by decide) rfl (Nat.le_of_ble_eq_true rfl) dX0_extreme_163 (fun u hu => ?_)
              obtain ⟨d', L1, R1, B1, T1, L2, R2, B2, T2, rfl, hsc, x1, x2, y1, y2, z1, z2, z3, z4⟩ := cut_P hb2 hd (by omega) hu
              obtain ⟨G3, sc3⟩ := u
              dsimp only at hsc x1 x2 z1 z2
              subst hsc
              have hN3 : G3 0 = G 0 := (z2 0 (by omega)).trans hN2
              have hsb : sb (d' + 1) = 2 * sb d' + 1 := rfl
              refine x_iinc (vs' := [.ref h, vI f, vI s, vI ti, vI sg, vI (i + 1), vI (w - 1), vI bnd]) hX dX0_extreme_166 rfl (by decide) rfl ?_
              refine x_goto (tgt := 38) hX dX0_extreme_169 (by decide) ?_
              refine x_take hX 6 (vs' := [.ref h, vI f, vI s, vI ti, vI sg, vI (i + 1)]) rfl ?_
              refine ih d' (by omega) (n + 1) L1 R1 B1 T1 G3 bs (st + 1) x1 y1 (by omega) (by omega) hbs hN3 ?_ _ _ (by omega) (by omega)
              intro G4 bs1 st1 k1 k2 k3 k4 k5 k6 k7 i1 w1 hi1 hw1
              refine ih d' (by omega) n L2 R2 B2 T2 G4 bs1 st1 (x2.same k2 (by omega)) y2 (by omega) (by omega) k4 k1 ?_ _ _ hi1 (by omega)
              intro G5 bs2 st2 m1 m2 m3 m4 m5 m6 m7 i2 w2 hi2 hw2
              refine kk G5 bs2 st2 m1 (((hs2.tr z1).tr (k2.le (by omega))).tr m2) (by omega) m4 (fun x y hx => ?_) ?_ (by omega) i2 w2 hi2 hw2
              · rcases (z3 x y).mp hx with hx | hx
                · have := k5 x y hx; omega
                · exact m5 x y hx
              · rcases m6 with e | ⟨x, y, e1, e2⟩
                · rcases k6 with e' | ⟨x, y, e1, e2⟩
                  · exact Or.inl (e.trans e')
                  · exact Or.inr ⟨x, y, (z3 x y).mpr (Or.inl e1), e.trans e2⟩
                · exact Or.inr ⟨x, y, (z3 x y).mpr (Or.inr e1), e2⟩
            · refine x_aload_n hX dX0_extreme_151 rfl ?_
              refine x_iload hX dX0_extreme_152 rfl ?_
              refine x_putS (sc' := [w - 1, bnd]) hX (by decide) 1 rfl (by decide) rfl (by decide +kernel) q48 dX0_extreme_154 rfl ?_
              refine x_goto (tgt := 166) hX dX0_extreme_157 (by decide) ?_
              refine x_iinc (vs' := [.ref h, vI f, vI s, vI ti, vI sg, vI (i + 1), vI (w - 1), vI bnd]) hX dX0_extreme_166 rfl (by decide) rfl ?_
              refine x_goto (tgt := 38) hX dX0_extreme_169 (by decide) ?_
              refine x_take hX 6 (vs' := [.ref h, vI f, vI s, vI ti, vI sg, vI (i + 1)]) rfl ?_
              exact kk G2 bnd (st + 1) hN2 hs2 (by omega) k1 k2 (Or.inr (k3 (by clear k3; omega))) (by omega) _ _ (by omega) (by omega)
      refine x_iload hX dX0_extreme_101 rfl ?_
      refine x_if_le (tgt := 115) hX dX0_extreme_103 (by decide) ⟨by omega, by omega⟩ (fun c3 => ?_) (fun c3 => ?_)
      · refine x_aload_n hX dX0_extreme_115 rfl ?_
        refine x_getA hX (by decide) 2 (by decide) q37 dX0_extreme_116 ?_
        refine x_iload_n hX dX0_extreme_119 rfl ?_
        refine x_iald hX 2 tg (by decide) (by omega) (show _ < 6 by omega) rfl dX0_extreme_120 ?_
        refine x_ineg hX dX0_extreme_121 ?_
        have hs1 : sg = -1 := by omega
        exact key _ (by omega) (fun x y hx => by have := gt.rng hx; rw [hs1]; omega) (fun h7 => by obtain ⟨-, ⟨x, y, e1, e2⟩⟩ := gt.hit (by omega) (by omega) h7; exact ⟨x, y, e1, by rw [hs1, e2]; omega⟩)
      · refine x_aload_n hX dX0_extreme_106 rfl ?_
        refine x_getA hX (by decide) 3 (by decide) q38 dX0_extreme_107 ?_
        refine x_iload_n hX dX0_extreme_110 rfl ?_
        refine x_iald hX 3 tg (by decide) (by omega) (show _ < 6 by omega) rfl dX0_extreme_111 ?_
        refine x_goto (tgt := 122) hX dX0_extreme_112 (by decide) ?_
        have hs1 : sg = 1 := by omega
        exact key _ (by omega) (fun x y hx => by have := gt.rng hx; rw [hs1]; omega) (fun h7 => by obtain ⟨⟨x, y, e1, e2⟩, -⟩ := gt.hit (by omega) (by omega) h7; exact ⟨x, y, e1, by rw [hs1, e2]; omega⟩)
  refine x_aload_n hX dX0_extreme_0 rfl ?_
  refine x_iload_n hX dX0_extreme_1 rfl ?_
  refine x_iload_n hX dX0_extreme_2 rfl ?_
  refine x_callV hX (by decide) [vI f, vI s] [] (tX0_open l D dA h q G wt bs f s ⟨hf.1, hf.2.1⟩ ⟨hs.1, hs.2.1⟩) q122 q124 qs2 q25 q125 (show dsc (xR 0) yX0_open 2 by decide +kernel) (by decide) rfl (Nat.le_of_ble_eq_true rfl) dX0_extreme_3 (fun u hu => ?_)
  subst hu
  refine x_nmG (fun G1 hG1 => ?_)
  have hN1 : G1 0 = G 0 := by rw [hG1]; funext b; simp [gu]
  have hb1 : Bx G1 0 (f / 32 - 16) (f % 32 - 16) (s / 32 - 16) (s % 32 - 16) := by rw [hG1]; simp [Bx, gu]
  clear hG1
  refine x_aload_n hX dX0_extreme_6 rfl ?_
  refine x_aload_n hX dX0_extreme_7 rfl ?_
  refine x_getA hX (by decide) 8 (by decide) q43 dX0_extreme_8 ?_
  refine x_iconst hX dX0_extreme_11 ?_
  refine x_iald hX 8 0 (by decide) (by omega) (show _ < 16 by omega) rfl dX0_extreme_12 ?_
  refine x_aload_n hX dX0_extreme_13 rfl ?_
  refine x_getA hX (by decide) 10 (by decide) q45 dX0_extreme_14 ?_
  refine x_iconst hX dX0_extreme_17 ?_
  refine x_iald hX 10 0 (by decide) (by omega) (show _ < 16 by omega) rfl dX0_extreme_18 ?_
  refine x_callV hX (by decide) [vI (G1 8 0), vI (G1 10 0)] [] (tX0_work l D dA h q G1 _ _ _ (by rw [hN1]; exact hB) (by rw [hb1.1]; omega) (by rw [hb1.2.2.1]; omega)) q103 q105 qs0 q25 q106 (show dsc (xR 0) yX0_work 2 by decide +kernel) (by decide) rfl (Nat.le_of_ble_eq_true rfl) dX0_extreme_19 (fun u hu => ?_)
  obtain ⟨G2, sc2⟩ := u
  obtain ⟨fr, hun, hsc⟩ := hu
  dsimp only at fr hun hsc
  subst hsc
  rw [hN1, hb1.1, hb1.2.2.1] at hun
  have hN2 : G2 0 = G 0 := (fr 0 (by omega)).trans hN1
  have hb2 : Bx G2 0 (f / 32 - 16) (f % 32 - 16) (s / 32 - 16) (s % 32 - 16) := by
    unfold Bx
    rw [fr 8 (by omega), fr 9 (by omega), fr 10 (by omega), fr 11 (by omega)]
    exact hb1
  have ev := hun tg htg
  have hvb := nV_b hB tg (x := f / 32 - 16) (y := s / 32 - 16) (by omega) (by omega)
  refine x_aload_n hX dX0_extreme_22 rfl ?_
  refine x_iload hX dX0_extreme_23 rfl ?_
  refine x_aload_n hX dX0_extreme_25 rfl ?_
  refine x_getA hX (by decide) 1 (by decide) q36 dX0_extreme_26 ?_
  refine x_iload_n hX dX0_extreme_29 rfl ?_
  refine x_iald hX 1 tg (by decide) (by omega) (show _ < 6 by omega) rfl dX0_extreme_30 ?_
  refine x_imul hX dX0_extreme_31 ?_
  refine x_putS (sc' := [1, sg * (G2 1 tg)]) hX (by decide) 1 rfl (by decide) rfl (by decide +kernel) q48 dX0_extreme_32 rfl ?_
  refine x_iconst hX dX0_extreme_35 ?_
  refine x_istore (vs' := [.ref h, vI f, vI s, vI ti, vI sg, vI 0]) hX dX0_extreme_36 ⟨Nat.le_of_ble_eq_true rfl, Nat.le_of_ble_eq_true rfl⟩ rfl ?_
  refine BB 10 0 _ _ _ _ G2 _ 0 hb2 (okI.dp hf hs) (by omega) (by rw [sb_10]; omega) (by rw [ev]; rcases hsg with e | e <;> rw [e] <;> omega) hN2 ?_ _ _ rfl rfl
  intro G3 bs' st' k1 k2 k3 k4 k5 k6 k7 i' w' hi' hw'
  rw [sb_10] at k7
  have hend : X (G3, [w', bs']) 172 [.ref h, vI f, vI s, vI ti, vI sg, vI i'] [] := by
    refine x_aload_n hX dX0_extreme_172 rfl ?_
    refine x_getS hX (by decide) 1 rfl (by decide) q48 dX0_extreme_173 ?_
    exact hret _ _ _ _ dX0_extreme_176 ⟨k5, by
      rcases k6 with e | ⟨x, y, e1, e2⟩
      · exact ⟨f / 32 - 16, s / 32 - 16, ⟨by omega, by omega, by omega, by omega⟩, by rw [e, ev]⟩
      · exact ⟨x, y, e1, e2⟩, k1, _, _, rfl⟩
  refine x_iload hX dX0_extreme_38 rfl ?_
  refine x_sipush hX dX0_extreme_40 (by decide +kernel) ?_
  refine x_icmp_ge (tgt := 172) hX dX0_extreme_43 (by decide) ⟨by omega, by omega⟩ ⟨by omega, by omega⟩ (fun c1 => absurd c1 (by omega)) (fun c1 => ?_)
  refine x_aload_n hX dX0_extreme_46 rfl ?_
  refine x_getS hX (by decide) 0 rfl (by decide) q47 dX0_extreme_47 ?_
  refine x_if_le (tgt := 172) hX dX0_extreme_50 (by decide) ⟨by omega, by omega⟩ (fun c2 => ?_) (fun c2 => absurd c2 (by omega))
  exact hend
end
section
set_option maxRecDepth 100000
def bef (x' y' x y : Int) : Prop := x' < x ∨ (x' = x ∧ y' < y)
/-- the first place of a box with a value above a limit, as a code; -2 if there is none -/
def Fst (P : Int → Int → Int) (lim L R B T r : Int) : Prop := (r = -2 ∧ ∀ x y : Int, inBx L R B T x y → P x y ≤ lim) ∨ ∃ x y : Int, inBx L R B T x y ∧ lim < P x y ∧ (∀ x' y' : Int, inBx L R B T x' y' → bef x' y' x y → P x' y' ≤ lim) ∧ r = 32 * (x + 16) + y + 16
theorem Fst.uniq {P : Int → Int → Int} {lim L R B T r r' : Int} (hL : -16 ≤ L) (hB : -16 ≤ B) (h : Fst P lim L R B T r) (h' : Fst P lim L R B T r') : r = r' := by
  rcases h with ⟨e, a⟩ | ⟨x, y, a1, a2, a3, a4⟩ <;> rcases h' with ⟨e', b⟩ | ⟨x', y', b1, b2, b3, b4⟩
  · omega
  · have := a x' y' b1; omega
  · have := b x y a1; omega
  · have c1 : ¬ bef x' y' x y := fun z => by have := a3 x' y' b1 z; omega
    have c2 : ¬ bef x y x' y' := fun z => by have := b3 x y a1 z; omega
    unfold bef at c1 c2
    omega
set_option maxHeartbeats 4000000 in
theorem tX0_firstAbove (l : Launch) (D : va_G) (dA : Bool → ClassId) (h : Nat) (q : Nat → Nat) (G : Nat → Nat → Int) (wt bs : Int) (f s lim : Int) (hlim : inR lim) (hB : NB (G 0)) (hf : okI f) (hs : okI s) : XM l yX0_firstAbove cX0_firstAbove 6 (some .int) 3 D dA (xw 0 dA h q) [.ref h, vI f, vI s, vI lim] (G, [wt, bs]) (fun r u => Fst (nV (G 0) 5) lim (f / 32 - 16) (f % 32 - 16) (s / 32 - 16) (s % 32 - 16) r ∧ u.1 0 = G 0 ∧ ∃ w2 b2 : Int, u.2 = [w2, b2]) := by
  refine XM.of (by decide +kernel) (by simp [Value.category]) (Nat.le_of_ble_eq_true rfl) ?_
  intro X hX hret
  have hX : XOK l (xR 0) cX0_firstAbove 6 (rmL 3) D dA (xw 0 dA h q) X := hX
  have hf' := id hf
  have hs' := id hs
  obtain ⟨f1, f2, f3⟩ := hf'
  obtain ⟨s1', s2', s3'⟩ := hs'
  have BB : ∀ (d n : Nat) (L R B T : Int) (G' : Nat → Nat → Int) (st : Nat), Bx G' n L R B T → Dp d L R B T → n + d ≤ 10 → st + sb d ≤ 2047 → G' 0 = G 0 → (∀ x y : Int, inBx L R B T x y → lim < nV (G 0) 5 x y → (∀ x' y' : Int, inBx L R B T x' y' → bef x' y' x y → nV (G 0) 5 x' y' ≤ lim) → Fst (nV (G 0) 5) lim (f / 32 - 16) (f % 32 - 16) (s / 32 - 16) (s % 32 - 16) (32 * (x + 16) + y + 16)) → (∀ (G2 : Nat → Nat → Int) (st' : Nat), G2 0 = G 0 → SameB n G' G2 → (∀ x y : Int, inBx L R B T x y → nV (G 0) 5 x y ≤ lim) → st' ≤ st + sb d → ∀ i' w' : Int, i' = (st' : Int) → w' = (n : Int) → X (G2, [w', bs]) 9 [.ref h, vI f, vI s, vI lim, vI i'] []) → ∀ i w : Int, i = (st : Int) → w = (n : Int) + 1 → X (G', [w, bs]) 9 [.ref h, vI f, vI s, vI lim, vI i] [] := by
    intro d
    induction d using Nat.strongRecOn with
    | _ d ih =>
      intro n L R B T G' st hb hd hn hst hN rr kk i w hi hw
      have hsp := sb_pos d
      have d0 := hd.1
      have d1 := hd.2.1
      refine x_iload hX dX0_firstAbove_9 rfl ?_
      refine x_sipush hX dX0_firstAbove_11 (by decide +kernel) ?_
      refine x_icmp_ge (tgt := 128) hX dX0_firstAbove_14 (by decide) ⟨by omega, by omega⟩ ⟨by omega, by omega⟩ (fun c1 => absurd c1 (by omega)) (fun c1 => ?_)
      refine x_aload_n hX dX0_firstAbove_17 rfl ?_
      refine x_getS hX (by decide) 0 rfl (by decide) q47 dX0_firstAbove_18 ?_
      refine x_if_le (tgt := 128) hX dX0_firstAbove_21 (by decide) ⟨by omega, by omega⟩ (fun c2 => absurd c2 (by omega)) (fun c2 => ?_)
      refine x_aload_n hX dX0_firstAbove_24 rfl ?_
      refine x_dup hX dX0_firstAbove_25 rfl ?_
      refine x_getS hX (by decide) 0 rfl (by decide) q47 dX0_firstAbove_26 ?_
      refine x_iconst hX dX0_firstAbove_29 ?_
      refine x_isub hX dX0_firstAbove_30 ?_
      refine x_putS (sc' := [w - 1, bs]) hX (by decide) 0 rfl (by decide) rfl (by decide +kernel) q47 dX0_firstAbove_31 rfl ?_
      refine x_aload_n hX dX0_firstAbove_34 rfl ?_
      refine x_getS hX (by decide) 0 rfl (by decide) q47 dX0_firstAbove_35 ?_
      refine x_istore (vs' := [.ref h, vI f, vI s, vI lim, vI i, vI (w - 1)]) hX dX0_firstAbove_38 ⟨Nat.le_of_ble_eq_true rfl, Nat.le_of_ble_eq_true rfl⟩ rfl ?_
      refine x_aload_n hX dX0_firstAbove_40 rfl ?_
      refine x_aload_n hX dX0_firstAbove_41 rfl ?_
      refine x_getA hX (by decide) 8 (by decide) q43 dX0_firstAbove_42 ?_
      refine x_iload hX dX0_firstAbove_45 rfl ?_
      refine x_iald hX 8 n (by decide) (by omega) (show _ < 16 by omega) rfl dX0_firstAbove_47 ?_
      refine x_aload_n hX dX0_firstAbove_48 rfl ?_
      refine x_getA hX (by decide) 9 (by decide) q44 dX0_firstAbove_49 ?_
      refine x_iload hX dX0_firstAbove_52 rfl ?_
      refine x_iald hX 9 n (by decide) (by omega) (show _ < 16 by omega) rfl dX0_firstAbove_54 ?_
      refine x_aload_n hX dX0_firstAbove_55 rfl ?_
      refine x_getA hX (by decide) 10 (by decide) q45 dX0_firstAbove_56 ?_
      refine x_iload hX dX0_firstAbove_59 rfl ?_
      refine x_iald hX 10 n (by decide) (by omega) (show _ < 16 by omega) rfl dX0_firstAbove_61 ?_
      refine x_aload_n hX dX0_firstAbove_62 rfl ?_
      refine x_getA hX (by decide) 11 (by decide) q46 dX0_firstAbove_63 ?_
      refine x_iload hX dX0_firstAbove_66 rfl ?_
      refine x_iald hX 11 n (by decide) (by omega) (show _ < 16 by omega) rfl dX0_firstAbove_68 ?_
      refine x_callV hX (by decide) [vI ((G') 8 n), vI ((G') 9 n), vI ((G') 10 n), vI ((G') 11 n)] [] (tX0_range l D dA h q _ _ _ _ _ _ (by rw [hN]; exact hB) (by rw [hb.1, hb.2.1]; omega) (by rw [hb.2.2.1, hb.2.2.2]; omega)) q126 q128 qs3 q25 q129 (show dsc (xR 0) yX0_range 4 by decide +kernel) (by decide) rfl (Nat.le_of_ble_eq_true rfl) dX0_firstAbove_69 (fun u hu => ?_)
      obtain ⟨G2, sc2⟩ := u
      obtain ⟨fr, hsc, hR⟩ := hu
      dsimp only at fr hsc hR
      subst hsc
      rw [hN, hb.1, hb.2.1, hb.2.2.1, hb.2.2.2] at hR
      have hN2 : G2 0 = G 0 := (fr 0 (by omega)).trans hN
      have hb2 := hb.rows fr
      have hs2 : SameB n G' G2 := fun a i ha hi => by rw [fr a (by omega)]
      have gt := hR 5 (by omega)
      obtain ⟨-, t2, -, t4, -, -, -, t8, t9⟩ := id gt
      refine x_aload_n hX dX0_firstAbove_72 rfl ?_
      refine x_getA hX (by decide) 3 (by decide) q38 dX0_firstAbove_73 ?_
      refine x_iconst hX dX0_firstAbove_76 ?_
      refine x_iald hX 3 5 (by decide) (by omega) (show _ < 6 by omega) rfl dX0_firstAbove_77 ?_
      refine x_iload_n hX dX0_firstAbove_78 rfl ?_
      refine x_icmp_le (tgt := 122) hX dX0_firstAbove_79 (by decide) ⟨by omega, by omega⟩ ⟨by omega, by omega⟩ (fun c3 => ?_) (fun c3 => ?_)
      · refine x_iinc (vs' := [.ref h, vI f, vI s, vI lim, vI (i + 1), vI (w - 1)]) hX dX0_firstAbove_122 rfl (by decide) rfl ?_
        refine x_goto (tgt := 9) hX dX0_firstAbove_125 (by decide) ?_
        refine x_take hX 5 (vs' := [.ref h, vI f, vI s, vI lim, vI (i + 1)]) rfl ?_
        exact kk G2 (st + 1) hN2 hs2 (fun x y hx => by have := gt.rng hx; omega) (by omega) _ _ (by omega) (by omega)
      · refine x_aload_n hX dX0_firstAbove_82 rfl ?_
        refine x_iload hX dX0_firstAbove_83 rfl ?_
        refine x_callI hX (by decide) [vI (w - 1)] [] (tX0_isPoint l D dA h q G2 _ n (w - 1) (by omega) (by omega) (by rw [hb2.1]; constructor <;> omega) (by rw [hb2.2.1]; constructor <;> omega) (by rw [hb2.2.2.1]; constructor <;> omega) (by rw [hb2.2.2.2]; constructor <;> omega)) q146 q148 qs8 q25 q149 (show dsc (xR 0) yX0_isPoint 1 by decide +kernel) (by decide) rfl (Nat.le_of_ble_eq_true rfl) dX0_firstAbove_85 (fun r u hu => ?_)
        obtain ⟨hp, rfl⟩ := hu
        rw [hb2.1, hb2.2.1, hb2.2.2.1, hb2.2.2.2] at hp
        refine x_if_eq (tgt := 116) hX dX0_firstAbove_88 (by decide) ⟨by omega, by omega⟩ (fun c4 => ?_) (fun c4 => ?_)
        · refine x_aload_n hX dX0_firstAbove_116 rfl ?_
          refine x_iload hX dX0_firstAbove_117 rfl ?_
          refine x_callV hX (by decide) [vI (w - 1)] [] (tX0_cut l D dA h q G2 _ bs n (w - 1) (by omega) (by omega) (by rw [hb2.1]; omega) (by rw [hb2.2.1]; omega) (by rw [hb2.2.2.1]; omega) (by rw [hb2.2.2.2]; omega)) q150 q152 qs9 q25 q153 (show dsc (xR 0) yX0_cut 1 by decide +kernel) (by decide) rfl (Nat.le_of_ble_eq_true rfl) dX0_firstAbove_119 (fun u hu => ?_)
          obtain ⟨d', L1, R1, B1, T1, L2, R2, B2, T2, rfl, hsc, x1, x2, y1, y2, z1, z2, z3, z4⟩ := cut_P hb2 hd (by omega) hu
          obtain ⟨G3, sc3⟩ := u
          dsimp only at hsc x1 x2 z1 z2
          subst hsc
          have hN3 : G3 0 = G 0 := (z2 0 (by omega)).trans hN2
          have hsb : sb (d' + 1) = 2 * sb d' + 1 := rfl
          refine x_iinc (vs' := [.ref h, vI f, vI s, vI lim, vI (i + 1), vI (w - 1)]) hX dX0_firstAbove_122 rfl (by decide) rfl ?_
          refine x_goto (tgt := 9) hX dX0_firstAbove_125 (by decide) ?_
          refine x_take hX 5 (vs' := [.ref h, vI f, vI s, vI lim, vI (i + 1)]) rfl ?_
          refine ih d' (by omega) (n + 1) L1 R1 B1 T1 G3 (st + 1) x1 y1 (by omega) (by omega) hN3 (fun x y e1 e2 e3 => rr x y ((z3 x y).mpr (Or.inl e1)) e2 (fun x' y' g1 g2 => ?_)) ?_ _ _ (by omega) (by omega)
          · rcases (z3 x' y').mp g1 with g1 | g1
            · exact e3 x' y' g1 g2
            · have := z4 x y x' y' e1 g1
              unfold bef at g2
              omega
          intro G4 st1 k1 k2 k5 k7 i1 w1 hi1 hw1
          refine ih d' (by omega) n L2 R2 B2 T2 G4 st1 (x2.same k2 (by omega)) y2 (by omega) (by omega) k1 (fun x y e1 e2 e3 => rr x y ((z3 x y).mpr (Or.inr e1)) e2 (fun x' y' g1 g2 => ?_)) ?_ _ _ hi1 (by omega)
          · rcases (z3 x' y').mp g1 with g1 | g1
            · exact k5 x' y' g1
            · exact e3 x' y' g1 g2
          intro G5 st2 m1 m2 m5 m7 i2 w2 hi2 hw2
          refine kk G5 st2 m1 (((hs2.tr z1).tr (k2.le (by omega))).tr m2) (fun x y hx => ?_) (by omega) i2 w2 hi2 hw2
          rcases (z3 x y).mp hx with hx | hx
          · exact k5 x y hx
          · exact m5 x y hx
        · refine x_bipush hX dX0_firstAbove_91 (by decide +kernel) ?_
          refine x_aload_n hX dX0_firstAbove_93 rfl ?_
          refine x_getA hX (by decide) 8 (by decide) q43 dX0_firstAbove_94 ?_
          refine x_iload hX dX0_firstAbove_97 rfl ?_
          refine x_iald hX 8 n (by decide) (by omega) (show _ < 16 by omega) rfl dX0_firstAbove_99 ?_
          refine x_bipush hX dX0_firstAbove_100 (by decide +kernel) ?_
          refine x_iadd hX dX0_firstAbove_102 ?_
          refine x_imul hX dX0_firstAbove_103 ?_
          refine x_aload_n hX dX0_firstAbove_104 rfl ?_
          refine x_getA hX (by decide) 10 (by decide) q45 dX0_firstAbove_105 ?_
          refine x_iload hX dX0_firstAbove_108 rfl ?_
          refine x_iald hX 10 n (by decide) (by omega) (show _ < 16 by omega) rfl dX0_firstAbove_110 ?_
          refine x_iadd hX dX0_firstAbove_111 ?_
          refine x_bipush hX dX0_firstAbove_112 (by decide +kernel) ?_
          refine x_iadd hX dX0_firstAbove_114 ?_
          have e0 : L = R ∧ B = T := by omega
          obtain ⟨⟨x, y, q1, q2⟩, -⟩ := gt.hit (by omega) (by omega) (t4 e0.1 e0.2)
          have ex : x = L := by have := q1.1; have := q1.2.1; omega
          have ey : y = B := by have := q1.2.2.1; have := q1.2.2.2; omega
          subst ex ey
          exact hret _ _ _ _ dX0_firstAbove_115 ⟨by rw [hb2.1, hb2.2.2.1]; exact rr x y q1 (by omega) (fun x' y' g1 g2 => by unfold inBx at g1; unfold bef at g2; omega), hN2, _, _, rfl⟩
  refine x_aload_n hX dX0_firstAbove_0 rfl ?_
  refine x_iload_n hX dX0_firstAbove_1 rfl ?_
  refine x_iload_n hX dX0_firstAbove_2 rfl ?_
  refine x_callV hX (by decide) [vI f, vI s] [] (tX0_open l D dA h q G wt bs f s ⟨hf.1, hf.2.1⟩ ⟨hs.1, hs.2.1⟩) q122 q124 qs2 q25 q125 (show dsc (xR 0) yX0_open 2 by decide +kernel) (by decide) rfl (Nat.le_of_ble_eq_true rfl) dX0_firstAbove_3 (fun u hu => ?_)
  subst hu
  refine x_nmG (fun G1 hG1 => ?_)
  have hN1 : G1 0 = G 0 := by rw [hG1]; funext b; simp [gu]
  have hb1 : Bx G1 0 (f / 32 - 16) (f % 32 - 16) (s / 32 - 16) (s % 32 - 16) := by rw [hG1]; simp [Bx, gu]
  clear hG1
  refine x_iconst hX dX0_firstAbove_6 ?_
  refine x_istore (vs' := [.ref h, vI f, vI s, vI lim, vI 0]) hX dX0_firstAbove_7 ⟨Nat.le_of_ble_eq_true rfl, Nat.le_of_ble_eq_true rfl⟩ rfl ?_
  refine BB 10 0 _ _ _ _ G1 0 hb1 (okI.dp hf hs) (by omega) (by rw [sb_10]; omega) hN1 (fun x y e1 e2 e3 => Or.inr ⟨x, y, e1, e2, e3, rfl⟩) ?_ _ _ rfl rfl
  intro G3 st' k1 k2 k5 k7 i' w' hi' hw'
  rw [sb_10] at k7
  have hend : X (G3, [w', bs]) 128 [.ref h, vI f, vI s, vI lim, vI i'] [] := by
    refine x_bipush hX dX0_firstAbove_128 (by decide +kernel) ?_
    exact hret _ _ _ _ dX0_firstAbove_130 ⟨Or.inl ⟨rfl, k5⟩, k1, _, _, rfl⟩
  refine x_iload hX dX0_firstAbove_9 rfl ?_
  refine x_sipush hX dX0_firstAbove_11 (by decide +kernel) ?_
  refine x_icmp_ge (tgt := 128) hX dX0_firstAbove_14 (by decide) ⟨by omega, by omega⟩ ⟨by omega, by omega⟩ (fun c1 => absurd c1 (by omega)) (fun c1 => ?_)
  refine x_aload_n hX dX0_firstAbove_17 rfl ?_
  refine x_getS hX (by decide) 0 rfl (by decide) q47 dX0_firstAbove_18 ?_
  refine x_if_le (tgt := 128) hX dX0_firstAbove_21 (by decide) ⟨by omega, by omega⟩ (fun c2 => ?_) (fun c2 => absurd c2 (by omega))
  exact hend
end
section
set_option maxRecDepth 100000
def bt (x : Int32) (i : Nat) : Bool := x.toBitVec.getLsbD i
theorem b_ext {x y : Int32} (h : ∀ i, i < 32 → bt x i = bt y i) : x = y := Int32.toBitVec_inj.mp (BitVec.eq_of_getLsbD_eq (fun i hi => h i hi))
theorem b_or (x y : Int32) (i : Nat) : bt (x ||| y) i = (bt x i || bt y i) := by unfold bt; rw [Int32.toBitVec_or, BitVec.getLsbD_or]
theorem b_and (x y : Int32) (i : Nat) : bt (x &&& y) i = (bt x i && bt y i) := by unfold bt; rw [Int32.toBitVec_and, BitVec.getLsbD_and]
theorem b_xor (x y : Int32) (i : Nat) : bt (x ^^^ y) i = (bt x i ^^ bt y i) := by unfold bt; rw [Int32.toBitVec_xor, BitVec.getLsbD_xor]
theorem b_big {x : Int32} {i : Nat} (h : 32 ≤ i) : bt x i = false := BitVec.getLsbD_of_ge _ _ h
theorem b_255 (i : Nat) : bt 255 i = decide (i < 8) := by
  rcases Nat.lt_or_ge i 32 with h | h
  · exact (by decide +kernel : ∀ i, i < 32 → bt 255 i = decide (i < 8)) i h
  · rw [b_big h, decide_eq_false (by omega)]
theorem b_65535 (i : Nat) : bt 65535 i = decide (i < 16) := by
  rcases Nat.lt_or_ge i 32 with h | h
  · exact (by decide +kernel : ∀ i, i < 32 → bt 65535 i = decide (i < 16)) i h
  · rw [b_big h, decide_eq_false (by omega)]
theorem b_m1 : ∀ i, i < 32 → bt (-1) i = true := by decide +kernel
theorem b_0 (i : Nat) : bt 0 i = false := BitVec.getLsbD_zero
theorem s_l : ∀ n, n < 32 → ((nI n &&& 31).toBitVec.smod 32).toNat = n := by decide +kernel
theorem s_u : ∀ n, n < 32 → (((nI n).toUInt32 &&& Int32.toUInt32 31).toBitVec % 32).toNat = n := by decide +kernel
theorem b_shl (n : Nat) (hn : n < 32) (x : Int32) {i : Nat} (hi : i < 32) : bt (x <<< (nI n &&& 31)) i = (decide (n ≤ i) && bt x (i - n)) := by
  unfold bt
  rw [Int32.toBitVec_shiftLeft]
  show (x.toBitVec <<< ((nI n &&& 31).toBitVec.smod 32).toNat).getLsbD i = _
  rw [s_l n hn, BitVec.getLsbD_shiftLeft]
  rcases Nat.lt_or_ge i n with h | h
  · simp [h, Nat.not_le.mpr h]
  · simp [hi, h, Nat.not_lt.mpr h]
theorem b_ushr (n : Nat) (hn : n < 32) (x : Int32) (i : Nat) : bt ((x.toUInt32 >>> ((nI n).toUInt32 &&& Int32.toUInt32 31)).toInt32) i = bt x (n + i) := by
  show (x.toUInt32 >>> ((nI n).toUInt32 &&& Int32.toUInt32 31)).toBitVec.getLsbD i = x.toUInt32.toBitVec.getLsbD (n + i)
  rw [UInt32.toBitVec_shiftRight]
  show (x.toUInt32.toBitVec >>> (((nI n).toUInt32 &&& Int32.toUInt32 31).toBitVec % 32).toNat).getLsbD i = _
  rw [s_u n hn, BitVec.getLsbD_ushiftRight]
theorem b_sshr (n : Nat) (hn : n < 32) (x : Int32) {i : Nat} (hi : i < 32) : bt (x >>> (nI n &&& 31)) i = if n + i < 32 then bt x (n + i) else bt x 31 := by
  unfold bt
  rw [Int32.toBitVec_shiftRight]
  show (x.toBitVec.sshiftRight ((nI n &&& 31).toBitVec.smod 32).toNat).getLsbD i = _
  rw [s_l n hn, BitVec.getLsbD_sshiftRight, BitVec.msb_eq_getLsbD_last]
  simp [hi]
theorem bt_1 : ∀ j, j < 32 → bt 1 j = decide (j = 0) := by decide +kernel
theorem bt_p {p i : Nat} (hp : p < 32) (hi : i < 32) : bt (1 <<< (nI p &&& 31)) i = decide (i = p) := by
  rw [b_shl p hp 1 hi, bt_1 (i - p) (by omega)]
  rcases Nat.lt_or_ge i p with h | h
  · rw [decide_eq_false (show ¬ p ≤ i by omega), decide_eq_false (show ¬ i = p by omega)]
    rfl
  · rw [decide_eq_true (show p ≤ i by omega)]
    by_cases e : i = p
    · rw [decide_eq_true e, decide_eq_true (show i - p = 0 by omega)]
      rfl
    · rw [decide_eq_false e, decide_eq_false (show ¬ i - p = 0 by omega)]
      rfl
theorem and1 (z : Int32) : z &&& 1 = iI (if bt z 0 = true then 1 else 0) := by
  apply b_ext
  intro i hi
  rw [b_and, bt_1 i hi]
  by_cases e : i = 0
  · subst e
    by_cases hb : bt z 0 = true
    · rw [hb, if_pos rfl]
      rfl
    · rw [if_neg hb, (by simpa using hb : bt z 0 = false)]
      rfl
  · rw [decide_eq_false e, Bool.and_false]
    have e2 : ∀ v : Int, v = 1 ∨ v = 0 → bt (iI v) i = false := by
      intro v hv
      rcases hv with rfl | rfl
      · show bt 1 i = false
        rw [bt_1 i hi, decide_eq_false e]
      · show bt 0 i = false
        exact b_0 i
    exact (e2 _ (by split <;> simp)).symm
theorem iI_1 : iI 1 = 1 := by decide +kernel
theorem ushr1 {x : Int32} {p : Nat} (hp : p < 32) : (x.toUInt32 >>> ((iI (p : Int)).toUInt32 &&& Int32.toUInt32 31)).toInt32 &&& iI 1 = iI (if bt x p = true then 1 else 0) := by
  rw [iI_1, and1, iI_nI, b_ushr p hp, Nat.add_zero]
theorem sshr1 {x : Int32} {p : Nat} (hp : p < 32) : (x >>> (iI (p : Int) &&& 31)) &&& iI 1 = iI (if bt x p = true then 1 else 0) := by
  rw [iI_1, and1, iI_nI, b_sshr p hp x (by omega), Nat.add_zero, if_pos hp]
/-- how many of the first n hold -/
def cN (b : Nat → Bool) : Nat → Int
  | 0 => 0
  | n + 1 => cN b n + (if b n = true then 1 else 0)
theorem cN_b (b : Nat → Bool) : ∀ n : Nat, 0 ≤ cN b n ∧ cN b n ≤ (n : Int)
  | 0 => by simp [cN]
  | n + 1 => by
    have := cN_b b n
    unfold cN
    split <;> omega
theorem cN_congr {b c : Nat → Bool} : ∀ n : Nat, (∀ p : Nat, p < n → b p = c p) → cN b n = cN c n
  | 0, _ => rfl
  | n + 1, h => by
    unfold cN
    rw [cN_congr n (fun p hp => h p (by omega)), h n (by omega)]
theorem patN_congr {b c : Nat → Bool} : ∀ n : Nat, (∀ p : Nat, p < n → b p = c p) → patN b n = patN c n
  | 0, _ => rfl
  | n + 1, h => by
    unfold patN
    rw [patN_congr n (fun p hp => h p (by omega)), h n (by omega)]
/-- which units are on -/
def ptn (N : Nat → Int) (x y : Int) : Nat := patN (fun t => decide (0 < nV N t x y)) 5
theorem ptn_lt (N : Nat → Int) (x y : Int) : ptn N x y < 32 := patN_lt _ 5
theorem x_topr {σ : Type} {X : σ → Nat → List Value → List Value → Prop} {u : σ} {pc : Nat} {vs st : List Value} {x : Int32} (k : ∀ y : Int32, y = x → X u pc vs (.int y :: st)) : X u pc vs (.int x :: st) := k x rfl
theorem seen_or {sn : Int32} {r p : Nat} (hr : r < 32) (hp : p < 32) : bt (sn ||| (iI 1 <<< (iI (r : Int) &&& 31))) p = true ↔ bt sn p = true ∨ p = r := by
  rw [b_or, iI_1, iI_nI, bt_p hr hp]
  simp
/-- the answer of patterns: how many patterns the box has -/
def Cnt (N : Nat → Int) (L R B T r : Int) : Prop := ∃ b : Nat → Bool, (∀ p : Nat, p < 32 → (b p = true ↔ ∃ x y : Int, inBx L R B T x y ∧ ptn N x y = p)) ∧ r = cN b 32
theorem Cnt.uniq {N : Nat → Int} {L R B T r r' : Int} (h : Cnt N L R B T r) (h' : Cnt N L R B T r') : r = r' := by
  obtain ⟨b, h1, h2⟩ := h
  obtain ⟨c, h3, h4⟩ := h'
  rw [h2, h4]
  refine cN_congr 32 (fun p hp => ?_)
  have := (h1 p hp).trans (h3 p hp).symm
  cases e1 : b p <;> cases e2 : c p <;> simp_all
end
section
set_option maxRecDepth 100000
set_option maxHeartbeats 4000000 in
theorem tX0_patterns (l : Launch) (D : va_G) (dA : Bool → ClassId) (h : Nat) (q : Nat → Nat) (G : Nat → Nat → Int) (wt bs : Int) (f s : Int) (hf0 : inR f) (hs0 : inR s) (hB : NB (G 0)) : XM l yX0_patterns cX0_patterns 7 (some .int) 3 D dA (xw 0 dA h q) [.ref h, vI f, vI s] (G, [wt, bs]) (fun r u => ((r = -1 ∧ ¬ (okI f ∧ okI s)) ∨ (okI f ∧ okI s ∧ Cnt (G 0) (f / 32 - 16) (f % 32 - 16) (s / 32 - 16) (s % 32 - 16) r)) ∧ u.1 0 = G 0 ∧ ∃ w2 b2 : Int, u.2 = [w2, b2]) := by
  refine XM.of (by decide +kernel) (by simp [Value.category]) (Nat.le_of_ble_eq_true rfl) ?_
  intro X hX hret
  have hX : XOK l (xR 0) cX0_patterns 7 (rmL 3) D dA (xw 0 dA h q) X := hX
  refine x_iload_n hX dX0_patterns_0 rfl ?_
  refine x_callS hX [vI f] [] (tX0_isInterval l D dA f ⟨by omega, by omega⟩) q115 q116 q25 q117 (show dsc yX0_isInterval.cls yX0_isInterval 1 by decide +kernel) (by decide) rfl (Nat.le_of_ble_eq_true rfl) dX0_patterns_1 (fun r1 hr1 => ?_)
  refine x_if_eq (tgt := 14) hX dX0_patterns_4 (by decide) ⟨by omega, by omega⟩ (fun c1 => ?_) (fun c1 => ?_)
  · refine x_iconst hX dX0_patterns_14 ?_
    exact hret _ _ _ _ dX0_patterns_15 ⟨Or.inl ⟨rfl, by unfold okI; omega⟩, rfl, _, _, rfl⟩
  · refine x_iload_n hX dX0_patterns_7 rfl ?_
    refine x_callS hX [vI s] [] (tX0_isInterval l D dA s ⟨by omega, by omega⟩) q115 q116 q25 q117 (show dsc yX0_isInterval.cls yX0_isInterval 1 by decide +kernel) (by decide) rfl (Nat.le_of_ble_eq_true rfl) dX0_patterns_8 (fun r8 hr8 => ?_)
    refine x_if_ne (tgt := 16) hX dX0_patterns_11 (by decide) ⟨by omega, by omega⟩ (fun c2 => ?_) (fun c2 => ?_)
    · have hf : okI f := ⟨by omega, by omega, by omega⟩
      have hs9 : okI s := ⟨by omega, by omega, by omega⟩
      have BB : ∀ (d n : Nat) (L R B T : Int) (G' : Nat → Nat → Int) (sn : Int32) (st : Nat), Bx G' n L R B T → Dp d L R B T → n + d ≤ 10 → st + sb d ≤ 2047 → G' 0 = G 0 → (∀ (G2 : Nat → Nat → Int) (sn' : Int32) (st' : Nat), G2 0 = G 0 → SameB n G' G2 → (∀ p : Nat, p < 32 → (bt sn' p = true ↔ bt sn p = true ∨ ∃ x y : Int, inBx L R B T x y ∧ ptn (G 0) x y = p)) → st' ≤ st + sb d → ∀ i' w' : Int, i' = (st' : Int) → w' = (n : Int) → X (G2, [w', bs]) 27 [.ref h, vI f, vI s, .int sn', vI i'] []) → ∀ i w : Int, i = (st : Int) → w = (n : Int) + 1 → X (G', [w, bs]) 27 [.ref h, vI f, vI s, .int sn, vI i] [] := by
        intro d
        induction d using Nat.strongRecOn with
        | _ d ih =>
          intro n L R B T G' sn st hb hd hn hst hN kk i w hi hw
          have hsp := sb_pos d
          have d0 := hd.1
          have d1 := hd.2.1
          refine x_iload hX dX0_patterns_27 rfl ?_
          refine x_sipush hX dX0_patterns_29 (by decide +kernel) ?_
          refine x_icmp_ge (tgt := 123) hX dX0_patterns_32 (by decide) ⟨by omega, by omega⟩ ⟨by omega, by omega⟩ (fun c1 => absurd c1 (by omega)) (fun c1 => ?_)
          refine x_aload_n hX dX0_patterns_35 rfl ?_
          refine x_getS hX (by decide) 0 rfl (by decide) q47 dX0_patterns_36 ?_
          refine x_if_le (tgt := 123) hX dX0_patterns_39 (by decide) ⟨by omega, by omega⟩ (fun c2 => absurd c2 (by omega)) (fun c2 => ?_)
          refine x_aload_n hX dX0_patterns_42 rfl ?_
          refine x_dup hX dX0_patterns_43 rfl ?_
          refine x_getS hX (by decide) 0 rfl (by decide) q47 dX0_patterns_44 ?_
          refine x_iconst hX dX0_patterns_47 ?_
          refine x_isub hX dX0_patterns_48 ?_
          refine x_putS (sc' := [w - 1, bs]) hX (by decide) 0 rfl (by decide) rfl (by decide +kernel) q47 dX0_patterns_49 rfl ?_
          refine x_aload_n hX dX0_patterns_52 rfl ?_
          refine x_getS hX (by decide) 0 rfl (by decide) q47 dX0_patterns_53 ?_
          refine x_istore (vs' := [.ref h, vI f, vI s, .int sn, vI i, vI (w - 1)]) hX dX0_patterns_56 ⟨Nat.le_of_ble_eq_true rfl, Nat.le_of_ble_eq_true rfl⟩ rfl ?_
          refine x_aload_n hX dX0_patterns_58 rfl ?_
          refine x_aload_n hX dX0_patterns_59 rfl ?_
          refine x_getA hX (by decide) 8 (by decide) q43 dX0_patterns_60 ?_
          refine x_iload hX dX0_patterns_63 rfl ?_
          refine x_iald hX 8 n (by decide) (by omega) (show _ < 16 by omega) rfl dX0_patterns_65 ?_
          refine x_aload_n hX dX0_patterns_66 rfl ?_
          refine x_getA hX (by decide) 9 (by decide) q44 dX0_patterns_67 ?_
          refine x_iload hX dX0_patterns_70 rfl ?_
          refine x_iald hX 9 n (by decide) (by omega) (show _ < 16 by omega) rfl dX0_patterns_72 ?_
          refine x_aload_n hX dX0_patterns_73 rfl ?_
          refine x_getA hX (by decide) 10 (by decide) q45 dX0_patterns_74 ?_
          refine x_iload hX dX0_patterns_77 rfl ?_
          refine x_iald hX 10 n (by decide) (by omega) (show _ < 16 by omega) rfl dX0_patterns_79 ?_
          refine x_aload_n hX dX0_patterns_80 rfl ?_
          refine x_getA hX (by decide) 11 (by decide) q46 dX0_patterns_81 ?_
          refine x_iload hX dX0_patterns_84 rfl ?_
          refine x_iald hX 11 n (by decide) (by omega) (show _ < 16 by omega) rfl dX0_patterns_86 ?_
          refine x_callV hX (by decide) [vI ((G') 8 n), vI ((G') 9 n), vI ((G') 10 n), vI ((G') 11 n)] [] (tX0_range l D dA h q _ _ _ _ _ _ (by rw [hN]; exact hB) (by rw [hb.1, hb.2.1]; omega) (by rw [hb.2.2.1, hb.2.2.2]; omega)) q126 q128 qs3 q25 q129 (show dsc (xR 0) yX0_range 4 by decide +kernel) (by decide) rfl (Nat.le_of_ble_eq_true rfl) dX0_patterns_87 (fun u hu => ?_)
          obtain ⟨G2, sc2⟩ := u
          obtain ⟨fr, hsc, hR⟩ := hu
          dsimp only at fr hsc hR
          subst hsc
          rw [hN, hb.1, hb.2.1, hb.2.2.1, hb.2.2.2] at hR
          have hN2 : G2 0 = G 0 := (fr 0 (by omega)).trans hN
          have hb2 := hb.rows fr
          have hs2 : SameB n G' G2 := fun a i ha hi => by rw [fr a (by omega)]
          refine x_aload_n hX dX0_patterns_90 rfl ?_
          have b2 : ∀ k : Nat, k < 5 → inR (G2 2 k) := fun k hk => by obtain ⟨-, -, -, -, -, -, -, t8, t9⟩ := hR k (by omega); constructor <;> omega
          have b3 : ∀ k : Nat, k < 5 → inR (G2 3 k) := fun k hk => by obtain ⟨-, -, -, -, -, -, -, t8, t9⟩ := hR k (by omega); constructor <;> omega
          refine x_callI hX (by decide) [] [] (tX0_patternOf l D dA h q G2 _ b2 b3) q189 q191 qs11 q25 q192 (show dsc (xR 0) yX0_patternOf 0 by decide +kernel) (by decide) rfl (Nat.le_of_ble_eq_true rfl) dX0_patterns_91 (fun r u hu => ?_)
          obtain ⟨hp, rfl⟩ := hu
          have hlt := patN_lt (fun t => decide (0 < G2 2 t)) 5
          have hrr : -1 ≤ r ∧ r ≤ 32 := by
            rcases hp with ⟨e, -⟩ | ⟨e, -⟩
            · omega
            · rw [e]; omega
          refine x_istore (vs' := [.ref h, vI f, vI s, .int sn, vI i, vI (w - 1), vI r]) hX dX0_patterns_94 ⟨Nat.le_of_ble_eq_true rfl, Nat.le_of_ble_eq_true rfl⟩ rfl ?_
          refine x_iload hX dX0_patterns_96 rfl ?_
          refine x_if_lt (tgt := 111) hX dX0_patterns_98 (by decide) ⟨by omega, by omega⟩ (fun c3 => ?_) (fun c3 => ?_)
          · have hnp : ¬ (L = R ∧ B = T) := by
              rintro ⟨e1, e2⟩
              rcases hp with ⟨-, k, hk, q1, q2⟩ | ⟨e, -⟩
              · have gk := hR k (by omega)
                obtain ⟨-, g2, g3⟩ := gk.2.2.1 (gk.2.2.2.1 e1 e2)
                rw [← e1, ← e2, mL_pt.1, mL_pt.1] at g2
                rw [← e1, ← e2, mL_pt.2, mL_pt.2] at g3
                omega
              · omega
            refine x_aload_n hX dX0_patterns_111 rfl ?_
            refine x_iload hX dX0_patterns_112 rfl ?_
            refine x_callV hX (by decide) [vI (w - 1)] [] (tX0_cut l D dA h q G2 _ bs n (w - 1) (by omega) (by omega) (by rw [hb2.1]; omega) (by rw [hb2.2.1]; omega) (by rw [hb2.2.2.1]; omega) (by rw [hb2.2.2.2]; omega)) q150 q152 qs9 q25 q153 (show dsc (xR 0) yX0_cut 1 by decide +kernel) (by decide) rfl (Nat.le_of_ble_eq_true rfl) dX0_patterns_114 (fun u hu => ?_)
            obtain ⟨d', L1, R1, B1, T1, L2, R2, B2, T2, rfl, hsc, x1, x2, y1, y2, z1, z2, z3, z4⟩ := cut_P hb2 hd (by omega) hu
            obtain ⟨G3, sc3⟩ := u
            dsimp only at hsc x1 x2 z1 z2
            subst hsc
            have hN3 : G3 0 = G 0 := (z2 0 (by omega)).trans hN2
            have hsb : sb (d' + 1) = 2 * sb d' + 1 := rfl
            refine x_iinc (vs' := [.ref h, vI f, vI s, .int sn, vI (i + 1), vI (w - 1), vI r]) hX dX0_patterns_117 rfl (by decide) rfl ?_
            refine x_goto (tgt := 27) hX dX0_patterns_120 (by decide) ?_
            refine x_take hX 5 (vs' := [.ref h, vI f, vI s, .int sn, vI (i + 1)]) rfl ?_
            refine ih d' (by omega) (n + 1) L1 R1 B1 T1 G3 sn (st + 1) x1 y1 (by omega) (by omega) hN3 ?_ _ _ (by omega) (by omega)
            intro G4 sn1 st1 k1 k2 k5 k7 i1 w1 hi1 hw1
            refine ih d' (by omega) n L2 R2 B2 T2 G4 sn1 st1 (x2.same k2 (by omega)) y2 (by omega) (by omega) k1 ?_ _ _ hi1 (by omega)
            intro G5 sn2 st2 m1 m2 m5 m7 i2 w2 hi2 hw2
            refine kk G5 sn2 st2 m1 (((hs2.tr z1).tr (k2.le (by omega))).tr m2) (fun p hp => ?_) (by omega) i2 w2 hi2 hw2
            rw [m5 p hp, k5 p hp]
            constructor
            · rintro ((e | ⟨x, y, e1, e2⟩) | ⟨x, y, e1, e2⟩)
              · exact Or.inl e
              · exact Or.inr ⟨x, y, (z3 x y).mpr (Or.inl e1), e2⟩
              · exact Or.inr ⟨x, y, (z3 x y).mpr (Or.inr e1), e2⟩
            · rintro (e | ⟨x, y, e1, e2⟩)
              · exact Or.inl (Or.inl e)
              · rcases (z3 x y).mp e1 with e1 | e1
                · exact Or.inl (Or.inr ⟨x, y, e1, e2⟩)
                · exact Or.inr ⟨x, y, e1, e2⟩
          · have hrp : r = (patN (fun t => decide (0 < G2 2 t)) 5 : Nat) := by
              rcases hp with ⟨e, -⟩ | ⟨e, -⟩
              · omega
              · exact e
            have hall : ∀ k : Nat, k < 5 → 0 < G2 2 k ∨ G2 3 k ≤ 0 := by
              rcases hp with ⟨e, -⟩ | ⟨-, e⟩
              · omega
              · exact e
            have hpt : ∀ x y : Int, inBx L R B T x y → ptn (G 0) x y = patN (fun t => decide (0 < G2 2 t)) 5 := fun x y hx => by
              refine patN_congr 5 (fun t ht => ?_)
              have q1 := (hR t (by omega)).rng hx
              have q2 := hall t ht
              exact decide_eq_decide.mpr (by omega)
            refine x_iload_n hX dX0_patterns_101 rfl ?_
            refine x_iconst hX dX0_patterns_102 ?_
            refine x_iload hX dX0_patterns_103 rfl ?_
            refine x_ishl hX dX0_patterns_105 rfl ?_
            refine x_ior hX dX0_patterns_106 rfl ?_
            refine x_topr (fun sn2 hsn2 => ?_)
            refine x_istore_n (vs' := [.ref h, vI f, vI s, .int sn2, vI i, vI (w - 1), vI r]) hX dX0_patterns_107 ⟨Nat.le_of_ble_eq_true rfl, Nat.le_of_ble_eq_true rfl⟩ rfl ?_
            refine x_goto (tgt := 117) hX dX0_patterns_108 (by decide) ?_
            refine x_iinc (vs' := [.ref h, vI f, vI s, .int sn2, vI (i + 1), vI (w - 1), vI r]) hX dX0_patterns_117 rfl (by decide) rfl ?_
            refine x_goto (tgt := 27) hX dX0_patterns_120 (by decide) ?_
            refine x_take hX 5 (vs' := [.ref h, vI f, vI s, .int sn2, vI (i + 1)]) rfl ?_
            refine kk G2 sn2 (st + 1) hN2 hs2 (fun p hp => ?_) (by omega) _ _ (by omega) (by omega)
            rw [hsn2, hrp, seen_or (patN_lt _ 5) hp]
            constructor
            · rintro (e | e)
              · exact Or.inl e
              · exact Or.inr ⟨L, B, ⟨by omega, by omega, by omega, by omega⟩, (hpt L B ⟨by omega, by omega, by omega, by omega⟩).trans e.symm⟩
            · rintro (e | ⟨x, y, e1, e2⟩)
              · exact Or.inl e
              · exact Or.inr (e2.symm.trans (hpt x y e1))
      have LC : ∀ (sn : Int32) (G' : Nat → Nat → Int) (sc : List Int), Cnt (G 0) (f / 32 - 16) (f % 32 - 16) (s / 32 - 16) (s % 32 - 16) (cN (bt sn) 32) → G' 0 = G 0 → (∃ w2 b2 : Int, sc = [w2, b2]) → ∀ (m p : Nat) (i sum : Int), p ≤ 32 → 33 ≤ p + m → i = (p : Int) → sum = cN (bt sn) p → X (G', sc) 129 [.ref h, vI f, vI s, .int sn, vI sum, vI i] [] := by
        intro sn G' sc hc hN hsc m
        induction m with
        | zero => intro p i sum e1 e2; exact absurd e2 (by omega)
        | succ m ih =>
          intro p i sum e1 e2 hi hs
          refine x_iload hX dX0_patterns_129 rfl ?_
          refine x_bipush hX dX0_patterns_131 (by decide +kernel) ?_
          refine x_icmp_ge (tgt := 153) hX dX0_patterns_133 (by decide) ⟨by omega, by omega⟩ ⟨by omega, by omega⟩ (fun c1 => ?_) (fun c1 => ?_)
          · refine x_iload hX dX0_patterns_153 rfl ?_
            have e9 : p = 32 := by omega
            subst e9
            exact hret _ _ _ _ dX0_patterns_155 ⟨Or.inr ⟨hf, hs9, by rw [hs]; exact hc⟩, hN, hsc⟩
          · refine x_iload hX dX0_patterns_136 rfl ?_
            refine x_iload_n hX dX0_patterns_138 rfl ?_
            refine x_iload hX dX0_patterns_139 rfl ?_
            refine x_iushr hX dX0_patterns_141 rfl ?_
            refine x_iconst hX dX0_patterns_142 ?_
            refine x_iand (v := iI (if bt sn p = true then 1 else 0)) hX dX0_patterns_143 (by rw [hi]; exact ushr1 (by omega)) ?_
            refine x_iadd hX dX0_patterns_144 ?_
            refine x_istore (vs' := [.ref h, vI f, vI s, .int sn, vI (sum + (if bt sn p = true then 1 else 0)), vI i]) hX dX0_patterns_145 ⟨Nat.le_of_ble_eq_true rfl, Nat.le_of_ble_eq_true rfl⟩ rfl ?_
            refine x_iinc (vs' := [.ref h, vI f, vI s, .int sn, vI (sum + (if bt sn p = true then 1 else 0)), vI (i + 1)]) hX dX0_patterns_147 rfl (by decide) rfl ?_
            refine x_goto (tgt := 129) hX dX0_patterns_150 (by decide) ?_
            exact ih (p + 1) _ _ (by omega) (by omega) (by omega) (by rw [hs]; rfl)
      refine x_iconst hX dX0_patterns_16 ?_
      refine x_istore_n (vs' := [.ref h, vI f, vI s, vI 0]) hX dX0_patterns_17 ⟨Nat.le_of_ble_eq_true rfl, Nat.le_of_ble_eq_true rfl⟩ rfl ?_
      refine x_aload_n hX dX0_patterns_18 rfl ?_
      refine x_iload_n hX dX0_patterns_19 rfl ?_
      refine x_iload_n hX dX0_patterns_20 rfl ?_
      refine x_callV hX (by decide) [vI f, vI s] [] (tX0_open l D dA h q G wt bs f s ⟨hf.1, hf.2.1⟩ ⟨hs9.1, hs9.2.1⟩) q122 q124 qs2 q25 q125 (show dsc (xR 0) yX0_open 2 by decide +kernel) (by decide) rfl (Nat.le_of_ble_eq_true rfl) dX0_patterns_21 (fun u hu => ?_)
      subst hu
      refine x_nmG (fun G1 hG1 => ?_)
      have hN1 : G1 0 = G 0 := by rw [hG1]; funext b; simp [gu]
      have hb1 : Bx G1 0 (f / 32 - 16) (f % 32 - 16) (s / 32 - 16) (s % 32 - 16) := by rw [hG1]; simp [Bx, gu]
      clear hG1
      refine x_iconst hX dX0_patterns_24 ?_
      refine x_istore (vs' := [.ref h, vI f, vI s, vI 0, vI 0]) hX dX0_patterns_25 ⟨Nat.le_of_ble_eq_true rfl, Nat.le_of_ble_eq_true rfl⟩ rfl ?_
      refine BB 10 0 _ _ _ _ G1 (iI 0) 0 hb1 (okI.dp hf hs9) (by omega) (by rw [sb_10]; omega) hN1 ?_ _ _ rfl rfl
      intro G3 sn' st' k1 k2 k5 k7 i' w' hi' hw'
      rw [sb_10] at k7
      have hend : X (G3, [w', bs]) 123 [.ref h, vI f, vI s, .int sn', vI i'] [] := by
        refine x_take hX 4 (vs' := [.ref h, vI f, vI s, .int sn']) rfl ?_
        refine x_iconst hX dX0_patterns_123 ?_
        refine x_istore (vs' := [.ref h, vI f, vI s, .int (sn'), vI 0]) hX dX0_patterns_124 ⟨Nat.le_of_ble_eq_true rfl, Nat.le_of_ble_eq_true rfl⟩ rfl ?_
        refine x_iconst hX dX0_patterns_126 ?_
        refine x_istore (vs' := [.ref h, vI f, vI s, .int (sn'), vI 0, vI 0]) hX dX0_patterns_127 ⟨Nat.le_of_ble_eq_true rfl, Nat.le_of_ble_eq_true rfl⟩ rfl ?_
        exact LC sn' G3 _ ⟨bt sn', fun p hp => by rw [k5 p hp, iI_0, b_0]; simp, rfl⟩ k1 ⟨_, _, rfl⟩ 33 0 0 0 (by omega) (by omega) rfl rfl
      refine x_iload hX dX0_patterns_27 rfl ?_
      refine x_sipush hX dX0_patterns_29 (by decide +kernel) ?_
      refine x_icmp_ge (tgt := 123) hX dX0_patterns_32 (by decide) ⟨by omega, by omega⟩ ⟨by omega, by omega⟩ (fun c1 => ?_) (fun c1 => ?_)
      · exact hend
      · refine x_aload_n hX dX0_patterns_35 rfl ?_
        refine x_getS hX (by decide) 0 rfl (by decide) q47 dX0_patterns_36 ?_
        refine x_if_le (tgt := 123) hX dX0_patterns_39 (by decide) ⟨by omega, by omega⟩ (fun c2 => ?_) (fun c2 => absurd c2 (by omega))
        exact hend
    · refine x_iconst hX dX0_patterns_14 ?_
      exact hret _ _ _ _ dX0_patterns_15 ⟨Or.inl ⟨rfl, by unfold okI; omega⟩, rfl, _, _, rfl⟩
end
section
set_option maxRecDepth 100000
/-! what each operation answers, as relations over the numbers N; each has one answer -/
def isOI (p : Int) : Prop := (6 ≤ p ∧ p ≤ 8) ∨ p = 15 ∨ p = 16 ∨ p = 19
/-- set: answer r, numbers N' -/
def RSet (N : Nat → Int) (pl v r : Int) (N' : Nat → Int) : Prop :=
  ((pl < 0 ∨ 19 < pl) ∧ r = -1 ∧ N' = N) ∨ ∃ p : Nat, pl = (p : Int) ∧ p < 20 ∧ (((isO p ∧ (v < -50 ∨ 50 < v)) ∨ (¬ isO p ∧ (v < -5 ∨ 5 < v))) ∧ r = -2 ∧ N' = N ∨ ((isO p ∧ -50 ≤ v ∧ v ≤ 50) ∨ (¬ isO p ∧ -5 ≤ v ∧ v ≤ 5)) ∧ ((N p ≠ v ∧ r = 1) ∨ (N p = v ∧ r = 0)) ∧ N' = fun i => if i = p then v else N i)
theorem RSet.uniq {N N1 N2 : Nat → Int} {pl v r r' : Int} (h : RSet N pl v r N1) (h' : RSet N pl v r' N2) : r = r' ∧ N1 = N2 := by
  rcases h with ⟨a1, a2, a3⟩ | ⟨p, a1, a2, a3⟩ <;> rcases h' with ⟨b1, b2, b3⟩ | ⟨p', b1, b2, b3⟩
  · exact ⟨by omega, by rw [a3, b3]⟩
  · omega
  · omega
  · have e : p = p' := by omega
    subst e
    rcases a3 with ⟨c1, c2, c3⟩ | ⟨c1, c2, c3⟩ <;> rcases b3 with ⟨d1, d2, d3⟩ | ⟨d1, d2, d3⟩
    · exact ⟨by omega, by rw [c3, d3]⟩
    · exfalso; unfold isO at *; omega
    · exfalso; unfold isO at *; omega
    · exact ⟨by omega, by rw [c3, d3]⟩
theorem RSet.nb {N N' : Nat → Int} {pl v r : Int} (hN : NB N) (h : RSet N pl v r N') : NB N' := by
  rcases h with ⟨-, -, a3⟩ | ⟨p, a1, a2, ⟨-, -, c3⟩ | ⟨c1, -, c3⟩⟩
  · rw [a3]; exact hN
  · rw [c3]; exact hN
  · rw [c3]
    intro i hi
    dsimp only
    split
    · next e =>
      subst e
      unfold isO at *
      exact ⟨by omega, fun h => by omega⟩
    · exact hN i hi
def sowV (seed bend : Int) (p : Nat) : Int := if (6 ≤ p ∧ p ≤ 8) ∨ p = 15 ∨ p = 16 ∨ p = 19 then (seed * 7 + 5 * (p : Int) + bend * (p : Int)) % 41 - 20 else (seed + 3 * (p : Int) + (p : Int) * (p : Int) * bend) % 11 - 5
def RSow (N : Nat → Int) (seed bend r : Int) (N' : Nat → Int) : Prop :=
  ((seed < 0 ∨ 100 < seed) ∧ r = -1 ∧ N' = N) ∨ ((0 ≤ seed ∧ seed ≤ 100) ∧ (bend < 0 ∨ 20 < bend) ∧ r = -2 ∧ N' = N) ∨ ((0 ≤ seed ∧ seed ≤ 100) ∧ (0 ≤ bend ∧ bend ≤ 20) ∧ r = 0 ∧ N' = fun i => if i < 20 then sowV seed bend i else N i)
theorem RSow.uniq {N N1 N2 : Nat → Int} {pl v r r' : Int} (h : RSow N pl v r N1) (h' : RSow N pl v r' N2) : r = r' ∧ N1 = N2 := by
  rcases h with ⟨a1, a2, a3⟩ | ⟨a0, a1, a2, a3⟩ | ⟨a0, a1, a2, a3⟩ <;> rcases h' with ⟨b1, b2, b3⟩ | ⟨b0, b1, b2, b3⟩ | ⟨b0, b1, b2, b3⟩ <;> first | (exfalso; omega) | exact ⟨by omega, by rw [a3, b3]⟩
theorem RSow.nb {N N' : Nat → Int} {s b r : Int} (hN : NB N) (h : RSow N s b r N') : NB N' := by
  rcases h with ⟨-, -, a3⟩ | ⟨-, -, -, a3⟩ | ⟨-, -, -, a3⟩
  · rw [a3]; exact hN
  · rw [a3]; exact hN
  · rw [a3]
    intro i hi
    dsimp only
    rw [if_pos hi]
    unfold sowV isO
    split <;> omega
def RGet (N : Nat → Int) (pl r : Int) : Prop := ((pl < 0 ∨ 19 < pl) ∧ r = -1000) ∨ ∃ p : Nat, pl = (p : Int) ∧ p < 20 ∧ r = N p
theorem RGet.uniq {N : Nat → Int} {pl r r' : Int} (h : RGet N pl r) (h' : RGet N pl r') : r = r' := by
  rcases h with ⟨a1, a2⟩ | ⟨p, a1, a2, a3⟩ <;> rcases h' with ⟨b1, b2⟩ | ⟨p', b1, b2, b3⟩
  · omega
  · omega
  · omega
  · have e : p = p' := by omega
    subst e
    omega
abbrev okX (x : Int) : Prop := -16 ≤ x ∧ x < 16
def RRes (N : Nat → Int) (x0 x1 r : Int) : Prop := (¬ (okX x0 ∧ okX x1) ∧ r = -1000000) ∨ (okX x0 ∧ okX x1 ∧ r = nV N 5 x0 x1)
theorem RRes.uniq {N : Nat → Int} {x0 x1 r r' : Int} (h : RRes N x0 x1 r) (h' : RRes N x0 x1 r') : r = r' := by unfold RRes at h h'; omega
def RUnit (N : Nat → Int) (u x0 x1 r : Int) : Prop := ((u < 0 ∨ 4 < u) ∧ r = -1) ∨ ((0 ≤ u ∧ u ≤ 4) ∧ ¬ (okX x0 ∧ okX x1) ∧ r = -2) ∨ (okX x0 ∧ okX x1 ∧ ∃ t : Nat, u = (t : Int) ∧ t < 5 ∧ r = cl (nV N t x0 x1))
theorem RUnit.uniq {N : Nat → Int} {u x0 x1 r r' : Int} (h : RUnit N u x0 x1 r) (h' : RUnit N u x0 x1 r') : r = r' := by
  rcases h with ⟨a1, a2⟩ | ⟨a1, a2, a3⟩ | ⟨a1, a2, t, a3, a4, a5⟩ <;> rcases h' with ⟨b1, b2⟩ | ⟨b1, b2, b3⟩ | ⟨b1, b2, t', b3, b4, b5⟩ <;> first | omega | skip
  have e : t = t' := by omega
  subst e
  omega
/-- the greatest of P on the box -/
def Mx (P : Int → Int → Int) (L R B T r : Int) : Prop := (∀ x y : Int, inBx L R B T x y → P x y ≤ r) ∧ ∃ x y : Int, inBx L R B T x y ∧ r = P x y
theorem Mx.uniq {P : Int → Int → Int} {L R B T r r' : Int} (h : Mx P L R B T r) (h' : Mx P L R B T r') : r = r' := by
  obtain ⟨h1, x, y, h2, h3⟩ := h
  obtain ⟨h1', x', y', h2', h3'⟩ := h'
  have := h1 x' y' h2'
  have := h1' x y h2
  omega
def Mn (P : Int → Int → Int) (L R B T r : Int) : Prop := (∀ x y : Int, inBx L R B T x y → r ≤ P x y) ∧ ∃ x y : Int, inBx L R B T x y ∧ r = P x y
theorem Mn.uniq {P : Int → Int → Int} {L R B T r r' : Int} (h : Mn P L R B T r) (h' : Mn P L R B T r') : r = r' := by
  obtain ⟨h1, x, y, h2, h3⟩ := h
  obtain ⟨h1', x', y', h2', h3'⟩ := h'
  have := h1 x' y' h2'
  have := h1' x y h2
  omega
abbrev cB4 (Q : Int → Int → Int → Int → Prop) (f s : Int) : Prop := Q (f / 32 - 16) (f % 32 - 16) (s / 32 - 16) (s % 32 - 16)
/-- an answer on a box of two codes, or e if they are none -/
def RBox (Q : Int → Int → Int → Int → Int → Prop) (e f s r : Int) : Prop := (¬ (okI f ∧ okI s) ∧ r = e) ∨ (okI f ∧ okI s ∧ Q (f / 32 - 16) (f % 32 - 16) (s / 32 - 16) (s % 32 - 16) r)
theorem RBox.uniq {Q : Int → Int → Int → Int → Int → Prop} {e f s r r' : Int} (hQ : ∀ L R B T r r' : Int, -16 ≤ L → L ≤ R → -16 ≤ B → B ≤ T → Q L R B T r → Q L R B T r' → r = r') (h : RBox Q e f s r) (h' : RBox Q e f s r') : r = r' := by
  rcases h with ⟨a1, a2⟩ | ⟨a1, a2, a3⟩ <;> rcases h' with ⟨b1, b2⟩ | ⟨b1, b2, b3⟩
  · omega
  · exact absurd ⟨b1, b2⟩ a1
  · exact absurd ⟨a1, a2⟩ b1
  · obtain ⟨c1, c2, c3⟩ := a1
    obtain ⟨d1, d2, d3⟩ := a2
    exact hQ _ _ _ _ r r' (by omega) (by omega) (by omega) (by omega) a3 b3
def QMost (N : Nat → Int) (L R B T r : Int) : Prop := Mx (nV N 5) L R B T r
def QLeast (N : Nat → Int) (L R B T r : Int) : Prop := Mn (nV N 5) L R B T r
def QMostAt (N : Nat → Int) (L R B T r : Int) : Prop := ∃ g : Int, Mx (nV N 5) L R B T g ∧ Fst (nV N 5) (g - 1) L R B T r
def QSafe (N : Nat → Int) (lim L R B T r : Int) : Prop := (r = 1 ∧ Fst (nV N 5) lim L R B T (-2)) ∨ (r = 0 ∧ ∃ c : Int, c ≠ -2 ∧ Fst (nV N 5) lim L R B T c)
def QBreach (N : Nat → Int) (lim L R B T r : Int) : Prop := Fst (nV N 5) lim L R B T r
def QFixed (N : Nat → Int) (t : Nat) (L R B T r : Int) : Prop := (r = 1 ∧ ∀ x y : Int, inBx L R B T x y → nV N t x y ≤ 0) ∨ (r = 2 ∧ ∀ x y : Int, inBx L R B T x y → 0 < nV N t x y) ∨ (r = 0 ∧ (∃ x y : Int, inBx L R B T x y ∧ 0 < nV N t x y) ∧ ∃ x y : Int, inBx L R B T x y ∧ nV N t x y ≤ 0)
theorem QMostAt.uniq {N : Nat → Int} (L R B T r r' : Int) (h1 : -16 ≤ L) (_ : L ≤ R) (h2 : -16 ≤ B) (_ : B ≤ T) (h : QMostAt N L R B T r) (h' : QMostAt N L R B T r') : r = r' := by
  obtain ⟨g, a1, a2⟩ := h
  obtain ⟨g', b1, b2⟩ := h'
  have e := a1.uniq b1
  subst e
  exact a2.uniq h1 h2 b2
theorem QSafe.uniq {N : Nat → Int} {lim : Int} (L R B T r r' : Int) (h1 : -16 ≤ L) (_ : L ≤ R) (h2 : -16 ≤ B) (_ : B ≤ T) (h : QSafe N lim L R B T r) (h' : QSafe N lim L R B T r') : r = r' := by
  rcases h with ⟨a1, a2⟩ | ⟨a1, c, a2, a3⟩ <;> rcases h' with ⟨b1, b2⟩ | ⟨b1, c', b2, b3⟩
  · omega
  · exact absurd (b3.uniq h1 h2 a2) b2
  · exact absurd (a3.uniq h1 h2 b2) a2
  · omega
theorem QFixed.uniq {N : Nat → Int} {t : Nat} (L R B T r r' : Int) (_ : -16 ≤ L) (h1 : L ≤ R) (_ : -16 ≤ B) (h2 : B ≤ T) (h : QFixed N t L R B T r) (h' : QFixed N t L R B T r') : r = r' := by
  have hp : inBx L R B T L B := ⟨by omega, by omega, by omega, by omega⟩
  rcases h with ⟨a1, a2⟩ | ⟨a1, a2⟩ | ⟨a1, ⟨x, y, a2, a3⟩, x', y', a4, a5⟩ <;> rcases h' with ⟨b1, b2⟩ | ⟨b1, b2⟩ | ⟨b1, ⟨u, v, b2, b3⟩, u', v', b4, b5⟩
  · omega
  · have := a2 _ _ hp; have := b2 _ _ hp; omega
  · have := a2 _ _ b2; omega
  · have := a2 _ _ hp; have := b2 _ _ hp; omega
  · omega
  · have := a2 _ _ b4; omega
  · have := b2 _ _ a2; omega
  · have := b2 _ _ a4; omega
  · omega
/-- the ball of radius r about a place, within the inputs -/
def lo16 (x r : Int) : Int := if x - r < -16 then -16 else x - r
def hi16 (x r : Int) : Int := if x + r > 15 then 15 else x + r
def AllLe (N : Nat → Int) (lim x0 x1 r : Int) : Prop := ∀ x y : Int, inBx (lo16 x0 r) (hi16 x0 r) (lo16 x1 r) (hi16 x1 r) x y → nV N 5 x y ≤ lim
theorem AllLe.mono {N : Nat → Int} {lim x0 x1 r r' : Int} (h : AllLe N lim x0 x1 r) (hr : r' ≤ r) : AllLe N lim x0 x1 r' := by
  intro x y hx
  refine h x y ?_
  unfold inBx lo16 hi16 at *
  refine ⟨?_, ?_, ?_, ?_⟩ <;> (have := hx.1; have := hx.2.1; have := hx.2.2.1; have := hx.2.2.2) <;> (repeat' split at *) <;> omega
theorem AllLe.zero {N : Nat → Int} {lim x0 x1 : Int} (h0 : okX x0) (h1 : okX x1) : AllLe N lim x0 x1 0 ↔ nV N 5 x0 x1 ≤ lim := by
  have e1 : lo16 x0 0 = x0 := by unfold lo16; split <;> omega
  have e2 : hi16 x0 0 = x0 := by unfold hi16; split <;> omega
  have e3 : lo16 x1 0 = x1 := by unfold lo16; split <;> omega
  have e4 : hi16 x1 0 = x1 := by unfold hi16; split <;> omega
  unfold AllLe
  rw [e1, e2, e3, e4]
  constructor
  · intro h
    exact h x0 x1 ⟨by omega, by omega, by omega, by omega⟩
  · intro h x y hx
    have ex : x = x0 := by have := hx.1; have := hx.2.1; omega
    have ey : y = x1 := by have := hx.2.2.1; have := hx.2.2.2; omega
    rw [ex, ey]
    exact h
def RRad (N : Nat → Int) (x0 x1 lim r : Int) : Prop := (¬ (okX x0 ∧ okX x1) ∧ r = -1) ∨ (okX x0 ∧ okX x1 ∧ ((r = -2 ∧ ¬ AllLe N lim x0 x1 0) ∨ (0 ≤ r ∧ r ≤ 31 ∧ AllLe N lim x0 x1 r ∧ (r = 31 ∨ ¬ AllLe N lim x0 x1 (r + 1)))))
theorem RRad.uniq {N : Nat → Int} {x0 x1 lim r r' : Int} (h : RRad N x0 x1 lim r) (h' : RRad N x0 x1 lim r') : r = r' := by
  rcases h with ⟨a1, a2⟩ | ⟨a0, a1, a2⟩ <;> rcases h' with ⟨b1, b2⟩ | ⟨b0, b1, b2⟩
  · omega
  · exact absurd ⟨b0, b1⟩ a1
  · exact absurd ⟨a0, a1⟩ b1
  · rcases a2 with ⟨a2, a3⟩ | ⟨a2, a3, a4, a5⟩ <;> rcases b2 with ⟨b2, b3⟩ | ⟨b2, b3, b4, b5⟩
    · omega
    · exact absurd (b4.mono b2) a3
    · exact absurd (a4.mono a2) b3
    · rcases Int.lt_trichotomy r r' with c | c | c
      · rcases a5 with a5 | a5
        · omega
        · exact absurd (b4.mono (by omega)) a5
      · exact c
      · rcases b5 with b5 | b5
        · omega
        · exact absurd (a4.mono (by omega)) b5
def RFixed (N : Nat → Int) (u f s r : Int) : Prop := ((u < 0 ∨ 4 < u) ∧ r = -1) ∨ ∃ t : Nat, u = (t : Int) ∧ t < 5 ∧ RBox (QFixed N t) (-2) f s r
theorem RFixed.uniq {N : Nat → Int} {u f s r r' : Int} (h : RFixed N u f s r) (h' : RFixed N u f s r') : r = r' := by
  rcases h with ⟨a1, a2⟩ | ⟨t, a1, a2, a3⟩ <;> rcases h' with ⟨b1, b2⟩ | ⟨t', b1, b2, b3⟩
  · omega
  · omega
  · omega
  · have e : t = t' := by omega
    subst e
    exact RBox.uniq QFixed.uniq a3 b3
def shp0 (sc : List Int) : Prop := ∃ w b : Int, sc = [w, b]
def shp1 (sc : List Int) : Prop := ∃ a b c d : Int, sc = [a, b, c, d]
end
section
set_option maxRecDepth 100000
set_option maxHeartbeats 4000000 in
theorem tX0_get (l : Launch) (D : va_G) (dA : Bool → ClassId) (h : Nat) (q : Nat → Nat) (G : Nat → Nat → Int) (wt bs : Int) (pl : Int) (hpl : inR pl) : XM l yX0_get cX0_get 2 (some .int) 0 D dA (xw 0 dA h q) [.ref h, vI pl] (G, [wt, bs]) (fun r u => RGet (G 0) pl r ∧ u.1 0 = G 0 ∧ shp0 u.2) := by
  refine XM.of (by decide +kernel) (by simp [Value.category]) (Nat.le_of_ble_eq_true rfl) ?_
  intro X hX hret
  have hX : XOK l (xR 0) cX0_get 2 (rmL 0) D dA (xw 0 dA h q) X := hX
  refine x_iload_n hX dX0_get_0 rfl ?_
  refine x_if_lt (tgt := 19) hX dX0_get_1 (by decide) ⟨by omega, by omega⟩ (fun c1 => ?_) (fun c1 => ?_)
  · refine x_sipush hX dX0_get_19 (by decide +kernel) ?_
    exact hret _ _ _ _ dX0_get_22 ⟨by first | exact Or.inl ⟨by omega, rfl⟩ | exact Or.inr ⟨pl.toNat, by omega, by omega, rfl⟩, rfl, _, _, rfl⟩
  · refine x_iload_n hX dX0_get_4 rfl ?_
    refine x_bipush hX dX0_get_5 (by decide +kernel) ?_
    refine x_icmp_gt (tgt := 19) hX dX0_get_7 (by decide) ⟨by omega, by omega⟩ ⟨by omega, by omega⟩ (fun c2 => ?_) (fun c2 => ?_)
    · refine x_sipush hX dX0_get_19 (by decide +kernel) ?_
      exact hret _ _ _ _ dX0_get_22 ⟨by first | exact Or.inl ⟨by omega, rfl⟩ | exact Or.inr ⟨pl.toNat, by omega, by omega, rfl⟩, rfl, _, _, rfl⟩
    · refine x_aload_n hX dX0_get_10 rfl ?_
      refine x_getA hX (by decide) 0 (by decide) q35 dX0_get_11 ?_
      refine x_iload_n hX dX0_get_14 rfl ?_
      refine x_iald hX 0 pl.toNat (by decide) (by omega) (show _ < 20 by omega) rfl dX0_get_15 ?_
      refine x_goto (tgt := 22) hX dX0_get_16 (by decide) ?_
      exact hret _ _ _ _ dX0_get_22 ⟨by first | exact Or.inl ⟨by omega, rfl⟩ | exact Or.inr ⟨pl.toNat, by omega, by omega, rfl⟩, rfl, _, _, rfl⟩
set_option maxHeartbeats 4000000 in
theorem tX0_set (l : Launch) (D : va_G) (dA : Bool → ClassId) (h : Nat) (q : Nat → Nat) (G : Nat → Nat → Int) (wt bs : Int) (pl v : Int) (hpl : inR pl) (hv : inR v) (hB : NB (G 0)) : XM l yX0_set cX0_set 5 (some .int) 1 D dA (xw 0 dA h q) [.ref h, vI pl, vI v] (G, [wt, bs]) (fun r u => RSet (G 0) pl v r (u.1 0) ∧ shp0 u.2) := by
  refine XM.of (by decide +kernel) (by simp [Value.category]) (Nat.le_of_ble_eq_true rfl) ?_
  intro X hX hret
  have hX : XOK l (xR 0) cX0_set 5 (rmL 1) D dA (xw 0 dA h q) X := hX
  refine x_iload_n hX dX0_set_0 rfl ?_
  refine x_if_lt (tgt := 10) hX dX0_set_1 (by decide) ⟨by omega, by omega⟩ (fun c1 => ?_) (fun c1 => ?_)
  · refine x_iconst hX dX0_set_10 ?_
    exact hret _ _ _ _ dX0_set_11 ⟨by first | exact Or.inl ⟨by omega, rfl, rfl⟩ | exact Or.inr ⟨pl.toNat, by omega, by omega, Or.inl ⟨by unfold isO; omega, rfl, rfl⟩⟩ | exact Or.inr ⟨pl.toNat, by omega, by omega, Or.inr ⟨by unfold isO; omega, by omega, by funext i; simp [gu]⟩⟩, _, _, rfl⟩
  · refine x_iload_n hX dX0_set_4 rfl ?_
    refine x_bipush hX dX0_set_5 (by decide +kernel) ?_
    refine x_icmp_le (tgt := 12) hX dX0_set_7 (by decide) ⟨by omega, by omega⟩ ⟨by omega, by omega⟩ (fun c2 => ?_) (fun c2 => ?_)
    · refine x_iload_n hX dX0_set_12 rfl ?_
      refine x_callS hX [vI pl] [] (tX0_isOffset l D dA pl ⟨by omega, by omega⟩) q84 q85 q25 q86 (show dsc yX0_isOffset.cls yX0_isOffset 1 by decide +kernel) (by decide) rfl (Nat.le_of_ble_eq_true rfl) dX0_set_13 (fun r13 hr13 => ?_)
      refine x_if_eq (tgt := 24) hX dX0_set_16 (by decide) ⟨by omega, by omega⟩ (fun c3 => ?_) (fun c3 => ?_)
      · refine x_iconst hX dX0_set_24 ?_
        refine x_istore_n (vs' := [.ref h, vI pl, vI v, vI 5]) hX dX0_set_25 ⟨Nat.le_of_ble_eq_true rfl, Nat.le_of_ble_eq_true rfl⟩ rfl ?_
        refine x_iload_n hX dX0_set_26 rfl ?_
        refine x_iload_n hX dX0_set_27 rfl ?_
        refine x_ineg hX dX0_set_28 ?_
        refine x_icmp_lt (tgt := 37) hX dX0_set_29 (by decide) ⟨by omega, by omega⟩ ⟨by omega, by omega⟩ (fun c4 => ?_) (fun c4 => ?_)
        · refine x_bipush hX dX0_set_37 (by decide +kernel) ?_
          exact hret _ _ _ _ dX0_set_39 ⟨by first | exact Or.inl ⟨by omega, rfl, rfl⟩ | exact Or.inr ⟨pl.toNat, by omega, by omega, Or.inl ⟨by unfold isO; omega, rfl, rfl⟩⟩ | exact Or.inr ⟨pl.toNat, by omega, by omega, Or.inr ⟨by unfold isO; omega, by omega, by funext i; simp [gu]⟩⟩, _, _, rfl⟩
        · refine x_iload_n hX dX0_set_32 rfl ?_
          refine x_iload_n hX dX0_set_33 rfl ?_
          refine x_icmp_le (tgt := 40) hX dX0_set_34 (by decide) ⟨by omega, by omega⟩ ⟨by omega, by omega⟩ (fun c5 => ?_) (fun c5 => ?_)
          · have hp := hB.o pl.toNat (by omega)
            refine x_aload_n hX dX0_set_40 rfl ?_
            refine x_getA hX (by decide) 0 (by decide) q35 dX0_set_41 ?_
            refine x_iload_n hX dX0_set_44 rfl ?_
            refine x_iald hX 0 pl.toNat (by decide) (by omega) (show _ < 20 by omega) rfl dX0_set_45 ?_
            refine x_iload_n hX dX0_set_46 rfl ?_
            refine x_icmp_eq (tgt := 54) hX dX0_set_47 (by decide) ⟨by omega, by omega⟩ ⟨by omega, by omega⟩ (fun c6 => ?_) (fun c6 => ?_)
            · refine x_iconst hX dX0_set_54 ?_
              refine x_istore (vs' := [.ref h, vI pl, vI v, vI 5, vI 0]) hX dX0_set_55 ⟨Nat.le_of_ble_eq_true rfl, Nat.le_of_ble_eq_true rfl⟩ rfl ?_
              refine x_aload_n hX dX0_set_57 rfl ?_
              refine x_getA hX (by decide) 0 (by decide) q35 dX0_set_58 ?_
              refine x_iload_n hX dX0_set_61 rfl ?_
              refine x_iload_n hX dX0_set_62 rfl ?_
              refine x_iast hX 0 pl.toNat (by decide) (by omega) (show _ < 20 by omega) dX0_set_63 ?_
              refine x_iload hX dX0_set_64 rfl ?_
              exact hret _ _ _ _ dX0_set_66 ⟨by first | exact Or.inl ⟨by omega, rfl, rfl⟩ | exact Or.inr ⟨pl.toNat, by omega, by omega, Or.inl ⟨by unfold isO; omega, rfl, rfl⟩⟩ | exact Or.inr ⟨pl.toNat, by omega, by omega, Or.inr ⟨by unfold isO; omega, by omega, by funext i; simp [gu]⟩⟩, _, _, rfl⟩
            · refine x_iconst hX dX0_set_50 ?_
              refine x_goto (tgt := 55) hX dX0_set_51 (by decide) ?_
              refine x_istore (vs' := [.ref h, vI pl, vI v, vI 5, vI 1]) hX dX0_set_55 ⟨Nat.le_of_ble_eq_true rfl, Nat.le_of_ble_eq_true rfl⟩ rfl ?_
              refine x_aload_n hX dX0_set_57 rfl ?_
              refine x_getA hX (by decide) 0 (by decide) q35 dX0_set_58 ?_
              refine x_iload_n hX dX0_set_61 rfl ?_
              refine x_iload_n hX dX0_set_62 rfl ?_
              refine x_iast hX 0 pl.toNat (by decide) (by omega) (show _ < 20 by omega) dX0_set_63 ?_
              refine x_iload hX dX0_set_64 rfl ?_
              exact hret _ _ _ _ dX0_set_66 ⟨by first | exact Or.inl ⟨by omega, rfl, rfl⟩ | exact Or.inr ⟨pl.toNat, by omega, by omega, Or.inl ⟨by unfold isO; omega, rfl, rfl⟩⟩ | exact Or.inr ⟨pl.toNat, by omega, by omega, Or.inr ⟨by unfold isO; omega, by omega, by funext i; simp [gu]⟩⟩, _, _, rfl⟩
          · refine x_bipush hX dX0_set_37 (by decide +kernel) ?_
            exact hret _ _ _ _ dX0_set_39 ⟨by first | exact Or.inl ⟨by omega, rfl, rfl⟩ | exact Or.inr ⟨pl.toNat, by omega, by omega, Or.inl ⟨by unfold isO; omega, rfl, rfl⟩⟩ | exact Or.inr ⟨pl.toNat, by omega, by omega, Or.inr ⟨by unfold isO; omega, by omega, by funext i; simp [gu]⟩⟩, _, _, rfl⟩
      · refine x_bipush hX dX0_set_19 (by decide +kernel) ?_
        refine x_goto (tgt := 25) hX dX0_set_21 (by decide) ?_
        refine x_istore_n (vs' := [.ref h, vI pl, vI v, vI 50]) hX dX0_set_25 ⟨Nat.le_of_ble_eq_true rfl, Nat.le_of_ble_eq_true rfl⟩ rfl ?_
        refine x_iload_n hX dX0_set_26 rfl ?_
        refine x_iload_n hX dX0_set_27 rfl ?_
        refine x_ineg hX dX0_set_28 ?_
        refine x_icmp_lt (tgt := 37) hX dX0_set_29 (by decide) ⟨by omega, by omega⟩ ⟨by omega, by omega⟩ (fun c7 => ?_) (fun c7 => ?_)
        · refine x_bipush hX dX0_set_37 (by decide +kernel) ?_
          exact hret _ _ _ _ dX0_set_39 ⟨by first | exact Or.inl ⟨by omega, rfl, rfl⟩ | exact Or.inr ⟨pl.toNat, by omega, by omega, Or.inl ⟨by unfold isO; omega, rfl, rfl⟩⟩ | exact Or.inr ⟨pl.toNat, by omega, by omega, Or.inr ⟨by unfold isO; omega, by omega, by funext i; simp [gu]⟩⟩, _, _, rfl⟩
        · refine x_iload_n hX dX0_set_32 rfl ?_
          refine x_iload_n hX dX0_set_33 rfl ?_
          refine x_icmp_le (tgt := 40) hX dX0_set_34 (by decide) ⟨by omega, by omega⟩ ⟨by omega, by omega⟩ (fun c8 => ?_) (fun c8 => ?_)
          · have hp := hB.o pl.toNat (by omega)
            refine x_aload_n hX dX0_set_40 rfl ?_
            refine x_getA hX (by decide) 0 (by decide) q35 dX0_set_41 ?_
            refine x_iload_n hX dX0_set_44 rfl ?_
            refine x_iald hX 0 pl.toNat (by decide) (by omega) (show _ < 20 by omega) rfl dX0_set_45 ?_
            refine x_iload_n hX dX0_set_46 rfl ?_
            refine x_icmp_eq (tgt := 54) hX dX0_set_47 (by decide) ⟨by omega, by omega⟩ ⟨by omega, by omega⟩ (fun c9 => ?_) (fun c9 => ?_)
            · refine x_iconst hX dX0_set_54 ?_
              refine x_istore (vs' := [.ref h, vI pl, vI v, vI 50, vI 0]) hX dX0_set_55 ⟨Nat.le_of_ble_eq_true rfl, Nat.le_of_ble_eq_true rfl⟩ rfl ?_
              refine x_aload_n hX dX0_set_57 rfl ?_
              refine x_getA hX (by decide) 0 (by decide) q35 dX0_set_58 ?_
              refine x_iload_n hX dX0_set_61 rfl ?_
              refine x_iload_n hX dX0_set_62 rfl ?_
              refine x_iast hX 0 pl.toNat (by decide) (by omega) (show _ < 20 by omega) dX0_set_63 ?_
              refine x_iload hX dX0_set_64 rfl ?_
              exact hret _ _ _ _ dX0_set_66 ⟨by first | exact Or.inl ⟨by omega, rfl, rfl⟩ | exact Or.inr ⟨pl.toNat, by omega, by omega, Or.inl ⟨by unfold isO; omega, rfl, rfl⟩⟩ | exact Or.inr ⟨pl.toNat, by omega, by omega, Or.inr ⟨by unfold isO; omega, by omega, by funext i; simp [gu]⟩⟩, _, _, rfl⟩
            · refine x_iconst hX dX0_set_50 ?_
              refine x_goto (tgt := 55) hX dX0_set_51 (by decide) ?_
              refine x_istore (vs' := [.ref h, vI pl, vI v, vI 50, vI 1]) hX dX0_set_55 ⟨Nat.le_of_ble_eq_true rfl, Nat.le_of_ble_eq_true rfl⟩ rfl ?_
              refine x_aload_n hX dX0_set_57 rfl ?_
              refine x_getA hX (by decide) 0 (by decide) q35 dX0_set_58 ?_
              refine x_iload_n hX dX0_set_61 rfl ?_
              refine x_iload_n hX dX0_set_62 rfl ?_
              refine x_iast hX 0 pl.toNat (by decide) (by omega) (show _ < 20 by omega) dX0_set_63 ?_
              refine x_iload hX dX0_set_64 rfl ?_
              exact hret _ _ _ _ dX0_set_66 ⟨by first | exact Or.inl ⟨by omega, rfl, rfl⟩ | exact Or.inr ⟨pl.toNat, by omega, by omega, Or.inl ⟨by unfold isO; omega, rfl, rfl⟩⟩ | exact Or.inr ⟨pl.toNat, by omega, by omega, Or.inr ⟨by unfold isO; omega, by omega, by funext i; simp [gu]⟩⟩, _, _, rfl⟩
          · refine x_bipush hX dX0_set_37 (by decide +kernel) ?_
            exact hret _ _ _ _ dX0_set_39 ⟨by first | exact Or.inl ⟨by omega, rfl, rfl⟩ | exact Or.inr ⟨pl.toNat, by omega, by omega, Or.inl ⟨by unfold isO; omega, rfl, rfl⟩⟩ | exact Or.inr ⟨pl.toNat, by omega, by omega, Or.inr ⟨by unfold isO; omega, by omega, by funext i; simp [gu]⟩⟩, _, _, rfl⟩
    · refine x_iconst hX dX0_set_10 ?_
      exact hret _ _ _ _ dX0_set_11 ⟨by first | exact Or.inl ⟨by omega, rfl, rfl⟩ | exact Or.inr ⟨pl.toNat, by omega, by omega, Or.inl ⟨by unfold isO; omega, rfl, rfl⟩⟩ | exact Or.inr ⟨pl.toNat, by omega, by omega, Or.inr ⟨by unfold isO; omega, by omega, by funext i; simp [gu]⟩⟩, _, _, rfl⟩
set_option maxHeartbeats 4000000 in
theorem tX0_sow (l : Launch) (D : va_G) (dA : Bool → ClassId) (h : Nat) (q : Nat → Nat) (G : Nat → Nat → Int) (wt bs : Int) (s b : Int) (hs : inR s) (hb : inR b) : XM l yX0_sow cX0_sow 6 (some .int) 1 D dA (xw 0 dA h q) [.ref h, vI s, vI b] (G, [wt, bs]) (fun r u => RSow (G 0) s b r (u.1 0) ∧ shp0 u.2) := by
  refine XM.of (by decide +kernel) (by simp [Value.category]) (Nat.le_of_ble_eq_true rfl) ?_
  intro X hX hret
  have hX : XOK l (xR 0) cX0_sow 6 (rmL 1) D dA (xw 0 dA h q) X := hX
  have L : 0 ≤ s → s ≤ 100 → 0 ≤ b → b ≤ 20 → ∀ (n p : Nat) (i : Int) (G' : Nat → Nat → Int), p ≤ 20 → 21 ≤ p + n → i = (p : Int) → (G' 0 = fun t => if t < p then sowV s b t else G 0 t) → X (G', [wt, bs]) 27 [.ref h, vI s, vI b, vI i] [] := by
    intro s0 s1 b0 b1 n
    induction n with
    | zero => intro p i G' e1 e2; exact absurd e2 (by omega)
    | succ n ih =>
      intro p i G' e1 e2 hi hG
      refine x_iload_n hX dX0_sow_27 rfl ?_
      refine x_bipush hX dX0_sow_28 (by decide +kernel) ?_
      refine x_icmp_ge (tgt := 97) hX dX0_sow_30 (by decide) ⟨by omega, by omega⟩ ⟨by omega, by omega⟩ (fun c1 => ?_) (fun c1 => ?_)
      · refine x_iconst hX dX0_sow_97 ?_
        have e9 : p = 20 := by omega
        subst e9
        exact hret _ _ _ _ dX0_sow_98 ⟨Or.inr (Or.inr ⟨by omega, by omega, rfl, hG⟩), _, _, rfl⟩
      · have hp : p < 20 := by omega
        have m1 : 0 ≤ b * i := Int.mul_nonneg (by omega) (by omega)
        have m2 := mulb (a := b) (b := i) (A := 20) (B := 20) (by omega) (by omega)
        have m3 : 0 ≤ i * i := Int.mul_nonneg (by omega) (by omega)
        have m4 := mulb (a := i) (b := i) (A := 20) (B := 20) (by omega) (by omega)
        have m5 : 0 ≤ i * i * b := Int.mul_nonneg m3 (by omega)
        have m6 := mulb (a := i * i) (b := b) (A := 400) (B := 20) (by omega) (by omega)
        refine x_iload_n hX dX0_sow_33 rfl ?_
        refine x_bipush hX dX0_sow_34 (by decide +kernel) ?_
        refine x_imul hX dX0_sow_36 ?_
        refine x_iconst hX dX0_sow_37 ?_
        refine x_iload_n hX dX0_sow_38 rfl ?_
        refine x_imul hX dX0_sow_39 ?_
        refine x_iadd hX dX0_sow_40 ?_
        refine x_iload_n hX dX0_sow_41 rfl ?_
        refine x_iload_n hX dX0_sow_42 rfl ?_
        refine x_imul hX dX0_sow_43 ?_
        refine x_iadd hX dX0_sow_44 ?_
        refine x_bipush hX dX0_sow_45 (by decide +kernel) ?_
        refine x_irem (v := iI ((s * 7 + 5 * i + b * i) % 41)) hX dX0_sow_47 (by decide +kernel) (iI_rem (by omega) (by omega) (by decide) (by decide)) ?_
        refine x_bipush hX dX0_sow_48 (by decide +kernel) ?_
        refine x_isub hX dX0_sow_50 ?_
        refine x_istore (vs' := [.ref h, vI s, vI b, vI i, vI ((s * 7 + 5 * i + b * i) % 41 - 20)]) hX dX0_sow_51 ⟨Nat.le_of_ble_eq_true rfl, Nat.le_of_ble_eq_true rfl⟩ rfl ?_
        refine x_iload_n hX dX0_sow_53 rfl ?_
        refine x_iconst hX dX0_sow_54 ?_
        refine x_iload_n hX dX0_sow_55 rfl ?_
        refine x_imul hX dX0_sow_56 ?_
        refine x_iadd hX dX0_sow_57 ?_
        refine x_iload_n hX dX0_sow_58 rfl ?_
        refine x_iload_n hX dX0_sow_59 rfl ?_
        refine x_imul hX dX0_sow_60 ?_
        refine x_iload_n hX dX0_sow_61 rfl ?_
        refine x_imul hX dX0_sow_62 ?_
        refine x_iadd hX dX0_sow_63 ?_
        refine x_bipush hX dX0_sow_64 (by decide +kernel) ?_
        refine x_irem (v := iI ((s + 3 * i + i * i * b) % 11)) hX dX0_sow_66 (by decide +kernel) (iI_rem (by omega) (by omega) (by decide) (by decide)) ?_
        refine x_iconst hX dX0_sow_67 ?_
        refine x_isub hX dX0_sow_68 ?_
        refine x_istore (vs' := [.ref h, vI s, vI b, vI i, vI ((s * 7 + 5 * i + b * i) % 41 - 20), vI ((s + 3 * i + i * i * b) % 11 - 5)]) hX dX0_sow_69 ⟨Nat.le_of_ble_eq_true rfl, Nat.le_of_ble_eq_true rfl⟩ rfl ?_
        refine x_aload_n hX dX0_sow_71 rfl ?_
        refine x_getA hX (by decide) 0 (by decide) q35 dX0_sow_72 ?_
        refine x_iload_n hX dX0_sow_75 rfl ?_
        refine x_iload_n hX dX0_sow_76 rfl ?_
        refine x_callS hX [vI i] [vI i, .ref (q 0)] (tX0_isOffset l D dA i ⟨by omega, by omega⟩) q84 q85 q25 q86 (show dsc yX0_isOffset.cls yX0_isOffset 1 by decide +kernel) (by decide) rfl (Nat.le_of_ble_eq_true rfl) dX0_sow_77 (fun r77 hr77 => ?_)
        refine x_if_eq (tgt := 88) hX dX0_sow_80 (by decide) ⟨by omega, by omega⟩ (fun c2 => ?_) (fun c2 => ?_)
        · refine x_iload hX dX0_sow_88 rfl ?_
          refine x_iast hX 0 p (by decide) (by omega) (show _ < 20 by omega) dX0_sow_90 ?_
          refine x_iinc (vs' := [.ref h, vI s, vI b, vI (i + 1), vI ((s * 7 + 5 * i + b * i) % 41 - 20), vI ((s + 3 * i + i * i * b) % 11 - 5)]) hX dX0_sow_91 rfl (by decide) rfl ?_
          refine x_goto (tgt := 27) hX dX0_sow_94 (by decide) ?_
          refine x_take hX 4 (vs' := [.ref h, vI s, vI b, vI (i + 1)]) rfl ?_
          exact ih (p + 1) _ _ (by omega) (by omega) (by omega) (by
            funext t
            by_cases e : t = p
            · subst e
              rw [gu_s, if_pos (by omega)]
              unfold sowV
              first | rw [if_pos (by omega), hi] | rw [if_neg (by omega), hi]
            · rw [gu_n e, hG]
              dsimp only
              by_cases q9 : t < p
              · rw [if_pos q9, if_pos (by omega)]
              · rw [if_neg q9, if_neg (by omega)])
        · refine x_iload hX dX0_sow_83 rfl ?_
          refine x_goto (tgt := 90) hX dX0_sow_85 (by decide) ?_
          refine x_iast hX 0 p (by decide) (by omega) (show _ < 20 by omega) dX0_sow_90 ?_
          refine x_iinc (vs' := [.ref h, vI s, vI b, vI (i + 1), vI ((s * 7 + 5 * i + b * i) % 41 - 20), vI ((s + 3 * i + i * i * b) % 11 - 5)]) hX dX0_sow_91 rfl (by decide) rfl ?_
          refine x_goto (tgt := 27) hX dX0_sow_94 (by decide) ?_
          refine x_take hX 4 (vs' := [.ref h, vI s, vI b, vI (i + 1)]) rfl ?_
          exact ih (p + 1) _ _ (by omega) (by omega) (by omega) (by
            funext t
            by_cases e : t = p
            · subst e
              rw [gu_s, if_pos (by omega)]
              unfold sowV
              first | rw [if_pos (by omega), hi] | rw [if_neg (by omega), hi]
            · rw [gu_n e, hG]
              dsimp only
              by_cases q9 : t < p
              · rw [if_pos q9, if_pos (by omega)]
              · rw [if_neg q9, if_neg (by omega)])
  refine x_iload_n hX dX0_sow_0 rfl ?_
  refine x_if_lt (tgt := 10) hX dX0_sow_1 (by decide) ⟨by omega, by omega⟩ (fun c1 => ?_) (fun c1 => ?_)
  · refine x_iconst hX dX0_sow_10 ?_
    exact hret _ _ _ _ dX0_sow_11 ⟨by first | exact Or.inl ⟨by omega, rfl, rfl⟩ | exact Or.inr (Or.inl ⟨by omega, by omega, rfl, rfl⟩), _, _, rfl⟩
  · refine x_iload_n hX dX0_sow_4 rfl ?_
    refine x_bipush hX dX0_sow_5 (by decide +kernel) ?_
    refine x_icmp_le (tgt := 12) hX dX0_sow_7 (by decide) ⟨by omega, by omega⟩ ⟨by omega, by omega⟩ (fun c2 => ?_) (fun c2 => ?_)
    · refine x_iload_n hX dX0_sow_12 rfl ?_
      refine x_if_lt (tgt := 22) hX dX0_sow_13 (by decide) ⟨by omega, by omega⟩ (fun c3 => ?_) (fun c3 => ?_)
      · refine x_bipush hX dX0_sow_22 (by decide +kernel) ?_
        exact hret _ _ _ _ dX0_sow_24 ⟨by first | exact Or.inl ⟨by omega, rfl, rfl⟩ | exact Or.inr (Or.inl ⟨by omega, by omega, rfl, rfl⟩), _, _, rfl⟩
      · refine x_iload_n hX dX0_sow_16 rfl ?_
        refine x_bipush hX dX0_sow_17 (by decide +kernel) ?_
        refine x_icmp_le (tgt := 25) hX dX0_sow_19 (by decide) ⟨by omega, by omega⟩ ⟨by omega, by omega⟩ (fun c4 => ?_) (fun c4 => ?_)
        · refine x_iconst hX dX0_sow_25 ?_
          refine x_istore_n (vs' := [.ref h, vI s, vI b, vI 0]) hX dX0_sow_26 ⟨Nat.le_of_ble_eq_true rfl, Nat.le_of_ble_eq_true rfl⟩ rfl ?_
          exact L (by omega) (by omega) (by omega) (by omega) 21 0 0 G (by omega) (by omega) rfl (by funext t; rw [if_neg (by omega)])
        · refine x_bipush hX dX0_sow_22 (by decide +kernel) ?_
          exact hret _ _ _ _ dX0_sow_24 ⟨by first | exact Or.inl ⟨by omega, rfl, rfl⟩ | exact Or.inr (Or.inl ⟨by omega, by omega, rfl, rfl⟩), _, _, rfl⟩
    · refine x_iconst hX dX0_sow_10 ?_
      exact hret _ _ _ _ dX0_sow_11 ⟨by first | exact Or.inl ⟨by omega, rfl, rfl⟩ | exact Or.inr (Or.inl ⟨by omega, by omega, rfl, rfl⟩), _, _, rfl⟩
set_option maxHeartbeats 4000000 in
theorem tX0_result (l : Launch) (D : va_G) (dA : Bool → ClassId) (h : Nat) (q : Nat → Nat) (G : Nat → Nat → Int) (wt bs : Int) (x0 x1 : Int) (h0 : inR x0) (h1 : inR x1) (hB : NB (G 0)) : XM l yX0_result cX0_result 3 (some .int) 1 D dA (xw 0 dA h q) [.ref h, vI x0, vI x1] (G, [wt, bs]) (fun r u => RRes (G 0) x0 x1 r ∧ u.1 0 = G 0 ∧ shp0 u.2) := by
  refine XM.of (by decide +kernel) (by simp [Value.category]) (Nat.le_of_ble_eq_true rfl) ?_
  intro X hX hret
  have hX : XOK l (xR 0) cX0_result 3 (rmL 1) D dA (xw 0 dA h q) X := hX
  refine x_iload_n hX dX0_result_0 rfl ?_
  refine x_callS hX [vI x0] [] (tX0_isInput l D dA x0 ⟨by omega, by omega⟩) q99 q100 q25 q101 (show dsc yX0_isInput.cls yX0_isInput 1 by decide +kernel) (by decide) rfl (Nat.le_of_ble_eq_true rfl) dX0_result_1 (fun r1 hr1 => ?_)
  refine x_if_eq (tgt := 14) hX dX0_result_4 (by decide) ⟨by omega, by omega⟩ (fun c1 => ?_) (fun c1 => ?_)
  · refine x_ldc (n := -1000000) hX q102 dX0_result_14 (by decide +kernel) ?_
    exact hret _ _ _ _ dX0_result_16 (by first | exact ⟨Or.inl ⟨by omega, rfl⟩, rfl, _, _, rfl⟩ | exact ⟨Or.inr ⟨by omega, by omega, hun 5 (by omega)⟩, hN2, _, _, rfl⟩)
  · refine x_iload_n hX dX0_result_7 rfl ?_
    refine x_callS hX [vI x1] [] (tX0_isInput l D dA x1 ⟨by omega, by omega⟩) q99 q100 q25 q101 (show dsc yX0_isInput.cls yX0_isInput 1 by decide +kernel) (by decide) rfl (Nat.le_of_ble_eq_true rfl) dX0_result_8 (fun r8 hr8 => ?_)
    refine x_if_ne (tgt := 17) hX dX0_result_11 (by decide) ⟨by omega, by omega⟩ (fun c2 => ?_) (fun c2 => ?_)
    · refine x_aload_n hX dX0_result_17 rfl ?_
      refine x_iload_n hX dX0_result_18 rfl ?_
      refine x_iload_n hX dX0_result_19 rfl ?_
      refine x_callV hX (by decide) [vI x0, vI x1] [] (tX0_work l D dA h q G _ x0 x1 hB (by omega) (by omega)) q103 q105 qs0 q25 q106 (show dsc (xR 0) yX0_work 2 by decide +kernel) (by decide) rfl (Nat.le_of_ble_eq_true rfl) dX0_result_20 (fun u hu => ?_)
      obtain ⟨G2, sc2⟩ := u
      obtain ⟨fr, hun, hsc⟩ := hu
      dsimp only at fr hun hsc
      subst hsc
      have hN2 : G2 0 = G 0 := fr 0 (by omega)
      refine x_aload_n hX dX0_result_23 rfl ?_
      refine x_getA hX (by decide) 1 (by decide) q36 dX0_result_24 ?_
      refine x_iconst hX dX0_result_27 ?_
      refine x_iald hX 1 5 (by decide) (by omega) (show _ < 6 by omega) rfl dX0_result_28 ?_
      exact hret _ _ _ _ dX0_result_29 (by first | exact ⟨Or.inl ⟨by omega, rfl⟩, rfl, _, _, rfl⟩ | exact ⟨Or.inr ⟨by omega, by omega, hun 5 (by omega)⟩, hN2, _, _, rfl⟩)
    · refine x_ldc (n := -1000000) hX q102 dX0_result_14 (by decide +kernel) ?_
      exact hret _ _ _ _ dX0_result_16 (by first | exact ⟨Or.inl ⟨by omega, rfl⟩, rfl, _, _, rfl⟩ | exact ⟨Or.inr ⟨by omega, by omega, hun 5 (by omega)⟩, hN2, _, _, rfl⟩)
set_option maxHeartbeats 4000000 in
theorem tX0_unit (l : Launch) (D : va_G) (dA : Bool → ClassId) (h : Nat) (q : Nat → Nat) (G : Nat → Nat → Int) (wt bs : Int) (t x0 x1 : Int) (ht : inR t) (h0 : inR x0) (h1 : inR x1) (hB : NB (G 0)) : XM l yX0_unit cX0_unit 4 (some .int) 1 D dA (xw 0 dA h q) [.ref h, vI t, vI x0, vI x1] (G, [wt, bs]) (fun r u => RUnit (G 0) t x0 x1 r ∧ u.1 0 = G 0 ∧ shp0 u.2) := by
  refine XM.of (by decide +kernel) (by simp [Value.category]) (Nat.le_of_ble_eq_true rfl) ?_
  intro X hX hret
  have hX : XOK l (xR 0) cX0_unit 4 (rmL 1) D dA (xw 0 dA h q) X := hX
  refine x_iload_n hX dX0_unit_0 rfl ?_
  refine x_if_lt (tgt := 9) hX dX0_unit_1 (by decide) ⟨by omega, by omega⟩ (fun c1 => ?_) (fun c1 => ?_)
  · refine x_iconst hX dX0_unit_9 ?_
    exact hret _ _ _ _ dX0_unit_10 (by first | exact ⟨Or.inl ⟨by omega, rfl⟩, rfl, _, _, rfl⟩ | exact ⟨Or.inr (Or.inl ⟨by omega, by omega, rfl⟩), rfl, _, _, rfl⟩ | exact ⟨Or.inr (Or.inr ⟨by omega, by omega, t.toNat, by omega, by omega, by first | (rw [cl_p (by omega)]; exact hv) | rw [cl_n (by omega)]⟩), hN2, _, _, rfl⟩)
  · refine x_iload_n hX dX0_unit_4 rfl ?_
    refine x_iconst hX dX0_unit_5 ?_
    refine x_icmp_le (tgt := 11) hX dX0_unit_6 (by decide) ⟨by omega, by omega⟩ ⟨by omega, by omega⟩ (fun c2 => ?_) (fun c2 => ?_)
    · refine x_iload_n hX dX0_unit_11 rfl ?_
      refine x_callS hX [vI x0] [] (tX0_isInput l D dA x0 ⟨by omega, by omega⟩) q99 q100 q25 q101 (show dsc yX0_isInput.cls yX0_isInput 1 by decide +kernel) (by decide) rfl (Nat.le_of_ble_eq_true rfl) dX0_unit_12 (fun r12 hr12 => ?_)
      refine x_if_eq (tgt := 25) hX dX0_unit_15 (by decide) ⟨by omega, by omega⟩ (fun c3 => ?_) (fun c3 => ?_)
      · refine x_bipush hX dX0_unit_25 (by decide +kernel) ?_
        exact hret _ _ _ _ dX0_unit_27 (by first | exact ⟨Or.inl ⟨by omega, rfl⟩, rfl, _, _, rfl⟩ | exact ⟨Or.inr (Or.inl ⟨by omega, by omega, rfl⟩), rfl, _, _, rfl⟩ | exact ⟨Or.inr (Or.inr ⟨by omega, by omega, t.toNat, by omega, by omega, by first | (rw [cl_p (by omega)]; exact hv) | rw [cl_n (by omega)]⟩), hN2, _, _, rfl⟩)
      · refine x_iload_n hX dX0_unit_18 rfl ?_
        refine x_callS hX [vI x1] [] (tX0_isInput l D dA x1 ⟨by omega, by omega⟩) q99 q100 q25 q101 (show dsc yX0_isInput.cls yX0_isInput 1 by decide +kernel) (by decide) rfl (Nat.le_of_ble_eq_true rfl) dX0_unit_19 (fun r19 hr19 => ?_)
        refine x_if_ne (tgt := 28) hX dX0_unit_22 (by decide) ⟨by omega, by omega⟩ (fun c4 => ?_) (fun c4 => ?_)
        · refine x_aload_n hX dX0_unit_28 rfl ?_
          refine x_iload_n hX dX0_unit_29 rfl ?_
          refine x_iload_n hX dX0_unit_30 rfl ?_
          refine x_callV hX (by decide) [vI x0, vI x1] [] (tX0_work l D dA h q G _ x0 x1 hB (by omega) (by omega)) q103 q105 qs0 q25 q106 (show dsc (xR 0) yX0_work 2 by decide +kernel) (by decide) rfl (Nat.le_of_ble_eq_true rfl) dX0_unit_31 (fun u hu => ?_)
          obtain ⟨G2, sc2⟩ := u
          obtain ⟨fr, hun, hsc⟩ := hu
          dsimp only at fr hun hsc
          subst hsc
          have hN2 : G2 0 = G 0 := fr 0 (by omega)
          have hv := hun t.toNat (by omega)
          have hb := nV_b hB t.toNat (x := x0) (y := x1) (by omega) (by omega)
          refine x_aload_n hX dX0_unit_34 rfl ?_
          refine x_getA hX (by decide) 1 (by decide) q36 dX0_unit_35 ?_
          refine x_iload_n hX dX0_unit_38 rfl ?_
          refine x_iald hX 1 t.toNat (by decide) (by omega) (show _ < 6 by omega) rfl dX0_unit_39 ?_
          refine x_if_le (tgt := 52) hX dX0_unit_40 (by decide) ⟨by omega, by omega⟩ (fun c5 => ?_) (fun c5 => ?_)
          · refine x_iconst hX dX0_unit_52 ?_
            exact hret _ _ _ _ dX0_unit_53 (by first | exact ⟨Or.inl ⟨by omega, rfl⟩, rfl, _, _, rfl⟩ | exact ⟨Or.inr (Or.inl ⟨by omega, by omega, rfl⟩), rfl, _, _, rfl⟩ | exact ⟨Or.inr (Or.inr ⟨by omega, by omega, t.toNat, by omega, by omega, by first | (rw [cl_p (by omega)]; exact hv) | rw [cl_n (by omega)]⟩), hN2, _, _, rfl⟩)
          · refine x_aload_n hX dX0_unit_43 rfl ?_
            refine x_getA hX (by decide) 1 (by decide) q36 dX0_unit_44 ?_
            refine x_iload_n hX dX0_unit_47 rfl ?_
            refine x_iald hX 1 t.toNat (by decide) (by omega) (show _ < 6 by omega) rfl dX0_unit_48 ?_
            refine x_goto (tgt := 53) hX dX0_unit_49 (by decide) ?_
            exact hret _ _ _ _ dX0_unit_53 (by first | exact ⟨Or.inl ⟨by omega, rfl⟩, rfl, _, _, rfl⟩ | exact ⟨Or.inr (Or.inl ⟨by omega, by omega, rfl⟩), rfl, _, _, rfl⟩ | exact ⟨Or.inr (Or.inr ⟨by omega, by omega, t.toNat, by omega, by omega, by first | (rw [cl_p (by omega)]; exact hv) | rw [cl_n (by omega)]⟩), hN2, _, _, rfl⟩)
        · refine x_bipush hX dX0_unit_25 (by decide +kernel) ?_
          exact hret _ _ _ _ dX0_unit_27 (by first | exact ⟨Or.inl ⟨by omega, rfl⟩, rfl, _, _, rfl⟩ | exact ⟨Or.inr (Or.inl ⟨by omega, by omega, rfl⟩), rfl, _, _, rfl⟩ | exact ⟨Or.inr (Or.inr ⟨by omega, by omega, t.toNat, by omega, by omega, by first | (rw [cl_p (by omega)]; exact hv) | rw [cl_n (by omega)]⟩), hN2, _, _, rfl⟩)
    · refine x_iconst hX dX0_unit_9 ?_
      exact hret _ _ _ _ dX0_unit_10 (by first | exact ⟨Or.inl ⟨by omega, rfl⟩, rfl, _, _, rfl⟩ | exact ⟨Or.inr (Or.inl ⟨by omega, by omega, rfl⟩), rfl, _, _, rfl⟩ | exact ⟨Or.inr (Or.inr ⟨by omega, by omega, t.toNat, by omega, by omega, by first | (rw [cl_p (by omega)]; exact hv) | rw [cl_n (by omega)]⟩), hN2, _, _, rfl⟩)
set_option maxHeartbeats 4000000 in
theorem tX0_most (l : Launch) (D : va_G) (dA : Bool → ClassId) (h : Nat) (q : Nat → Nat) (G : Nat → Nat → Int) (wt bs : Int) (f s : Int) (hf0 : inR f) (hs0 : inR s) (hB : NB (G 0)) : XM l yX0_most cX0_most 3 (some .int) 4 D dA (xw 0 dA h q) [.ref h, vI f, vI s] (G, [wt, bs]) (fun r u => RBox (QMost (G 0)) (-1000000) f s r ∧ u.1 0 = G 0 ∧ shp0 u.2) := by
  refine XM.of (by decide +kernel) (by simp [Value.category]) (Nat.le_of_ble_eq_true rfl) ?_
  intro X hX hret
  have hX : XOK l (xR 0) cX0_most 3 (rmL 4) D dA (xw 0 dA h q) X := hX
  refine x_iload_n hX dX0_most_0 rfl ?_
  refine x_callS hX [vI f] [] (tX0_isInterval l D dA f ⟨by omega, by omega⟩) q115 q116 q25 q117 (show dsc yX0_isInterval.cls yX0_isInterval 1 by decide +kernel) (by decide) rfl (Nat.le_of_ble_eq_true rfl) dX0_most_1 (fun r1 hr1 => ?_)
  refine x_if_eq (tgt := 14) hX dX0_most_4 (by decide) ⟨by omega, by omega⟩ (fun c1 => ?_) (fun c1 => ?_)
  · refine x_ldc (n := -1000000) hX q102 dX0_most_14 (by decide +kernel) ?_
    exact hret _ _ _ _ dX0_most_16 (by first | exact ⟨Or.inl ⟨by unfold okI; omega, rfl⟩, rfl, _, _, rfl⟩ | exact ⟨Or.inr ⟨hf, hs9, ⟨fun x y hx => by have := m1 x y hx; omega, by obtain ⟨x, y, e1, e2⟩ := k1; exact ⟨x, y, e1, by omega⟩⟩⟩, hN1, _, _, rfl⟩)
  · refine x_iload_n hX dX0_most_7 rfl ?_
    refine x_callS hX [vI s] [] (tX0_isInterval l D dA s ⟨by omega, by omega⟩) q115 q116 q25 q117 (show dsc yX0_isInterval.cls yX0_isInterval 1 by decide +kernel) (by decide) rfl (Nat.le_of_ble_eq_true rfl) dX0_most_8 (fun r8 hr8 => ?_)
    refine x_if_ne (tgt := 17) hX dX0_most_11 (by decide) ⟨by omega, by omega⟩ (fun c2 => ?_) (fun c2 => ?_)
    · have hf : okI f := ⟨by omega, by omega, by omega⟩
      have hs9 : okI s := ⟨by omega, by omega, by omega⟩
      refine x_aload_n hX dX0_most_17 rfl ?_
      refine x_iload_n hX dX0_most_18 rfl ?_
      refine x_iload_n hX dX0_most_19 rfl ?_
      refine x_iconst hX dX0_most_20 ?_
      refine x_iconst hX dX0_most_21 ?_
      refine x_callI hX (by decide) [vI f, vI s, vI 5, vI 1] [] (tX0_extreme l D dA h q G wt bs f s 5 1 5 (by omega) (by omega) (by omega) hB hf hs9) q118 q120 qs1 q25 q121 (show dsc (xR 0) yX0_extreme 4 by decide +kernel) (by decide) rfl (Nat.le_of_ble_eq_true rfl) dX0_most_22 (fun r1 u hu => ?_)
      obtain ⟨G2, sc1⟩ := u
      obtain ⟨m1, k1, hN1, w1, b1, hsc⟩ := hu
      dsimp only at m1 k1 hN1 hsc
      subst hsc
      have rb1 : -32050 ≤ r1 ∧ r1 ≤ 32050 := by
        obtain ⟨x, y, e1, e2⟩ := k1
        unfold cBx inBx at e1
        have := nV_b (show NB (G 0) from hB) 5 (x := x) (y := y) (by omega) (by omega)
        rw [e2]
        omega
      exact hret _ _ _ _ dX0_most_25 (by first | exact ⟨Or.inl ⟨by unfold okI; omega, rfl⟩, rfl, _, _, rfl⟩ | exact ⟨Or.inr ⟨hf, hs9, ⟨fun x y hx => by have := m1 x y hx; omega, by obtain ⟨x, y, e1, e2⟩ := k1; exact ⟨x, y, e1, by omega⟩⟩⟩, hN1, _, _, rfl⟩)
    · refine x_ldc (n := -1000000) hX q102 dX0_most_14 (by decide +kernel) ?_
      exact hret _ _ _ _ dX0_most_16 (by first | exact ⟨Or.inl ⟨by unfold okI; omega, rfl⟩, rfl, _, _, rfl⟩ | exact ⟨Or.inr ⟨hf, hs9, ⟨fun x y hx => by have := m1 x y hx; omega, by obtain ⟨x, y, e1, e2⟩ := k1; exact ⟨x, y, e1, by omega⟩⟩⟩, hN1, _, _, rfl⟩)
set_option maxHeartbeats 4000000 in
theorem tX0_least (l : Launch) (D : va_G) (dA : Bool → ClassId) (h : Nat) (q : Nat → Nat) (G : Nat → Nat → Int) (wt bs : Int) (f s : Int) (hf0 : inR f) (hs0 : inR s) (hB : NB (G 0)) : XM l yX0_least cX0_least 3 (some .int) 4 D dA (xw 0 dA h q) [.ref h, vI f, vI s] (G, [wt, bs]) (fun r u => RBox (QLeast (G 0)) (-1000000) f s r ∧ u.1 0 = G 0 ∧ shp0 u.2) := by
  refine XM.of (by decide +kernel) (by simp [Value.category]) (Nat.le_of_ble_eq_true rfl) ?_
  intro X hX hret
  have hX : XOK l (xR 0) cX0_least 3 (rmL 4) D dA (xw 0 dA h q) X := hX
  refine x_iload_n hX dX0_least_0 rfl ?_
  refine x_callS hX [vI f] [] (tX0_isInterval l D dA f ⟨by omega, by omega⟩) q115 q116 q25 q117 (show dsc yX0_isInterval.cls yX0_isInterval 1 by decide +kernel) (by decide) rfl (Nat.le_of_ble_eq_true rfl) dX0_least_1 (fun r1 hr1 => ?_)
  refine x_if_eq (tgt := 14) hX dX0_least_4 (by decide) ⟨by omega, by omega⟩ (fun c1 => ?_) (fun c1 => ?_)
  · refine x_ldc (n := -1000000) hX q102 dX0_least_14 (by decide +kernel) ?_
    exact hret _ _ _ _ dX0_least_16 (by first | exact ⟨Or.inl ⟨by unfold okI; omega, rfl⟩, rfl, _, _, rfl⟩ | exact ⟨Or.inr ⟨hf, hs9, ⟨fun x y hx => by have := m1 x y hx; omega, by obtain ⟨x, y, e1, e2⟩ := k1; exact ⟨x, y, e1, by omega⟩⟩⟩, hN1, _, _, rfl⟩)
  · refine x_iload_n hX dX0_least_7 rfl ?_
    refine x_callS hX [vI s] [] (tX0_isInterval l D dA s ⟨by omega, by omega⟩) q115 q116 q25 q117 (show dsc yX0_isInterval.cls yX0_isInterval 1 by decide +kernel) (by decide) rfl (Nat.le_of_ble_eq_true rfl) dX0_least_8 (fun r8 hr8 => ?_)
    refine x_if_ne (tgt := 17) hX dX0_least_11 (by decide) ⟨by omega, by omega⟩ (fun c2 => ?_) (fun c2 => ?_)
    · have hf : okI f := ⟨by omega, by omega, by omega⟩
      have hs9 : okI s := ⟨by omega, by omega, by omega⟩
      refine x_aload_n hX dX0_least_17 rfl ?_
      refine x_iload_n hX dX0_least_18 rfl ?_
      refine x_iload_n hX dX0_least_19 rfl ?_
      refine x_iconst hX dX0_least_20 ?_
      refine x_iconst hX dX0_least_21 ?_
      refine x_callI hX (by decide) [vI f, vI s, vI 5, vI ((-1))] [] (tX0_extreme l D dA h q G wt bs f s 5 (-1) 5 (by omega) (by omega) (by omega) hB hf hs9) q118 q120 qs1 q25 q121 (show dsc (xR 0) yX0_extreme 4 by decide +kernel) (by decide) rfl (Nat.le_of_ble_eq_true rfl) dX0_least_22 (fun r1 u hu => ?_)
      obtain ⟨G2, sc1⟩ := u
      obtain ⟨m1, k1, hN1, w1, b1, hsc⟩ := hu
      dsimp only at m1 k1 hN1 hsc
      subst hsc
      have rb1 : -32050 ≤ r1 ∧ r1 ≤ 32050 := by
        obtain ⟨x, y, e1, e2⟩ := k1
        unfold cBx inBx at e1
        have := nV_b (show NB (G 0) from hB) 5 (x := x) (y := y) (by omega) (by omega)
        rw [e2]
        omega
      refine x_ineg hX dX0_least_25 ?_
      exact hret _ _ _ _ dX0_least_26 (by first | exact ⟨Or.inl ⟨by unfold okI; omega, rfl⟩, rfl, _, _, rfl⟩ | exact ⟨Or.inr ⟨hf, hs9, ⟨fun x y hx => by have := m1 x y hx; omega, by obtain ⟨x, y, e1, e2⟩ := k1; exact ⟨x, y, e1, by omega⟩⟩⟩, hN1, _, _, rfl⟩)
    · refine x_ldc (n := -1000000) hX q102 dX0_least_14 (by decide +kernel) ?_
      exact hret _ _ _ _ dX0_least_16 (by first | exact ⟨Or.inl ⟨by unfold okI; omega, rfl⟩, rfl, _, _, rfl⟩ | exact ⟨Or.inr ⟨hf, hs9, ⟨fun x y hx => by have := m1 x y hx; omega, by obtain ⟨x, y, e1, e2⟩ := k1; exact ⟨x, y, e1, by omega⟩⟩⟩, hN1, _, _, rfl⟩)
set_option maxHeartbeats 4000000 in
theorem tX0_mostAt (l : Launch) (D : va_G) (dA : Bool → ClassId) (h : Nat) (q : Nat → Nat) (G : Nat → Nat → Int) (wt bs : Int) (f s : Int) (hf0 : inR f) (hs0 : inR s) (hB : NB (G 0)) : XM l yX0_mostAt cX0_mostAt 4 (some .int) 4 D dA (xw 0 dA h q) [.ref h, vI f, vI s] (G, [wt, bs]) (fun r u => RBox (QMostAt (G 0)) (-1) f s r ∧ u.1 0 = G 0 ∧ shp0 u.2) := by
  refine XM.of (by decide +kernel) (by simp [Value.category]) (Nat.le_of_ble_eq_true rfl) ?_
  intro X hX hret
  have hX : XOK l (xR 0) cX0_mostAt 4 (rmL 4) D dA (xw 0 dA h q) X := hX
  refine x_iload_n hX dX0_mostAt_0 rfl ?_
  refine x_callS hX [vI f] [] (tX0_isInterval l D dA f ⟨by omega, by omega⟩) q115 q116 q25 q117 (show dsc yX0_isInterval.cls yX0_isInterval 1 by decide +kernel) (by decide) rfl (Nat.le_of_ble_eq_true rfl) dX0_mostAt_1 (fun r1 hr1 => ?_)
  refine x_if_eq (tgt := 14) hX dX0_mostAt_4 (by decide) ⟨by omega, by omega⟩ (fun c1 => ?_) (fun c1 => ?_)
  · refine x_iconst hX dX0_mostAt_14 ?_
    exact hret _ _ _ _ dX0_mostAt_15 (by first | exact ⟨Or.inl ⟨by unfold okI; omega, rfl⟩, rfl, _, _, rfl⟩ | exact ⟨Or.inr ⟨hf, hs9, r1, ⟨fun x y hx => by have := m1 x y hx; omega, by obtain ⟨x, y, e1, e2⟩ := k1; exact ⟨x, y, e1, by omega⟩⟩, by rw [← hN1]; exact m2⟩, hN2.trans hN1, _, _, rfl⟩)
  · refine x_iload_n hX dX0_mostAt_7 rfl ?_
    refine x_callS hX [vI s] [] (tX0_isInterval l D dA s ⟨by omega, by omega⟩) q115 q116 q25 q117 (show dsc yX0_isInterval.cls yX0_isInterval 1 by decide +kernel) (by decide) rfl (Nat.le_of_ble_eq_true rfl) dX0_mostAt_8 (fun r8 hr8 => ?_)
    refine x_if_ne (tgt := 16) hX dX0_mostAt_11 (by decide) ⟨by omega, by omega⟩ (fun c2 => ?_) (fun c2 => ?_)
    · have hf : okI f := ⟨by omega, by omega, by omega⟩
      have hs9 : okI s := ⟨by omega, by omega, by omega⟩
      refine x_aload_n hX dX0_mostAt_16 rfl ?_
      refine x_iload_n hX dX0_mostAt_17 rfl ?_
      refine x_iload_n hX dX0_mostAt_18 rfl ?_
      refine x_iconst hX dX0_mostAt_19 ?_
      refine x_iconst hX dX0_mostAt_20 ?_
      refine x_callI hX (by decide) [vI f, vI s, vI 5, vI 1] [] (tX0_extreme l D dA h q G wt bs f s 5 1 5 (by omega) (by omega) (by omega) hB hf hs9) q118 q120 qs1 q25 q121 (show dsc (xR 0) yX0_extreme 4 by decide +kernel) (by decide) rfl (Nat.le_of_ble_eq_true rfl) dX0_mostAt_21 (fun r1 u hu => ?_)
      obtain ⟨G2, sc1⟩ := u
      obtain ⟨m1, k1, hN1, w1, b1, hsc⟩ := hu
      dsimp only at m1 k1 hN1 hsc
      subst hsc
      have rb1 : -32050 ≤ r1 ∧ r1 ≤ 32050 := by
        obtain ⟨x, y, e1, e2⟩ := k1
        unfold cBx inBx at e1
        have := nV_b (show NB (G 0) from hB) 5 (x := x) (y := y) (by omega) (by omega)
        rw [e2]
        omega
      refine x_istore_n (vs' := [.ref h, vI f, vI s, vI r1]) hX dX0_mostAt_24 ⟨Nat.le_of_ble_eq_true rfl, Nat.le_of_ble_eq_true rfl⟩ rfl ?_
      refine x_aload_n hX dX0_mostAt_25 rfl ?_
      refine x_iload_n hX dX0_mostAt_26 rfl ?_
      refine x_iload_n hX dX0_mostAt_27 rfl ?_
      refine x_iload_n hX dX0_mostAt_28 rfl ?_
      refine x_iconst hX dX0_mostAt_29 ?_
      refine x_isub hX dX0_mostAt_30 ?_
      refine x_callI hX (by decide) [vI f, vI s, vI (r1 - 1)] [] (tX0_firstAbove l D dA h q G2 w1 b1 f s (r1 - 1) ⟨by omega, by omega⟩ (by rw [hN1]; exact hB) hf hs9) q162 q164 qs10 q25 q165 (show dsc (xR 0) yX0_firstAbove 3 by decide +kernel) (by decide) rfl (Nat.le_of_ble_eq_true rfl) dX0_mostAt_31 (fun r2 u hu => ?_)
      obtain ⟨G3, sc2⟩ := u
      obtain ⟨m2, hN2, w2, b2, hsc⟩ := hu
      dsimp only at m2 hN2 hsc
      subst hsc
      exact hret _ _ _ _ dX0_mostAt_34 (by first | exact ⟨Or.inl ⟨by unfold okI; omega, rfl⟩, rfl, _, _, rfl⟩ | exact ⟨Or.inr ⟨hf, hs9, r1, ⟨fun x y hx => by have := m1 x y hx; omega, by obtain ⟨x, y, e1, e2⟩ := k1; exact ⟨x, y, e1, by omega⟩⟩, by rw [← hN1]; exact m2⟩, hN2.trans hN1, _, _, rfl⟩)
    · refine x_iconst hX dX0_mostAt_14 ?_
      exact hret _ _ _ _ dX0_mostAt_15 (by first | exact ⟨Or.inl ⟨by unfold okI; omega, rfl⟩, rfl, _, _, rfl⟩ | exact ⟨Or.inr ⟨hf, hs9, r1, ⟨fun x y hx => by have := m1 x y hx; omega, by obtain ⟨x, y, e1, e2⟩ := k1; exact ⟨x, y, e1, by omega⟩⟩, by rw [← hN1]; exact m2⟩, hN2.trans hN1, _, _, rfl⟩)
set_option maxHeartbeats 4000000 in
theorem tX0_safe (l : Launch) (D : va_G) (dA : Bool → ClassId) (h : Nat) (q : Nat → Nat) (G : Nat → Nat → Int) (wt bs : Int) (f s lim : Int) (hf0 : inR f) (hs0 : inR s) (hlim : inR lim) (hB : NB (G 0)) : XM l yX0_safe cX0_safe 4 (some .int) 4 D dA (xw 0 dA h q) [.ref h, vI f, vI s, vI lim] (G, [wt, bs]) (fun r u => RBox (QSafe (G 0) lim) (-1) f s r ∧ u.1 0 = G 0 ∧ shp0 u.2) := by
  refine XM.of (by decide +kernel) (by simp [Value.category]) (Nat.le_of_ble_eq_true rfl) ?_
  intro X hX hret
  have hX : XOK l (xR 0) cX0_safe 4 (rmL 4) D dA (xw 0 dA h q) X := hX
  refine x_iload_n hX dX0_safe_0 rfl ?_
  refine x_callS hX [vI f] [] (tX0_isInterval l D dA f ⟨by omega, by omega⟩) q115 q116 q25 q117 (show dsc yX0_isInterval.cls yX0_isInterval 1 by decide +kernel) (by decide) rfl (Nat.le_of_ble_eq_true rfl) dX0_safe_1 (fun r1 hr1 => ?_)
  refine x_if_eq (tgt := 14) hX dX0_safe_4 (by decide) ⟨by omega, by omega⟩ (fun c1 => ?_) (fun c1 => ?_)
  · refine x_iconst hX dX0_safe_14 ?_
    exact hret _ _ _ _ dX0_safe_15 (by first | exact ⟨Or.inl ⟨by unfold okI; omega, rfl⟩, rfl, _, _, rfl⟩ | exact ⟨Or.inr ⟨hf, hs9, by first | exact Or.inl ⟨rfl, by rw [← show r2 = -2 by omega]; exact m2⟩ | exact Or.inr ⟨rfl, r2, by omega, m2⟩⟩, hN2, _, _, rfl⟩)
  · refine x_iload_n hX dX0_safe_7 rfl ?_
    refine x_callS hX [vI s] [] (tX0_isInterval l D dA s ⟨by omega, by omega⟩) q115 q116 q25 q117 (show dsc yX0_isInterval.cls yX0_isInterval 1 by decide +kernel) (by decide) rfl (Nat.le_of_ble_eq_true rfl) dX0_safe_8 (fun r8 hr8 => ?_)
    refine x_if_ne (tgt := 16) hX dX0_safe_11 (by decide) ⟨by omega, by omega⟩ (fun c2 => ?_) (fun c2 => ?_)
    · have hf : okI f := ⟨by omega, by omega, by omega⟩
      have hs9 : okI s := ⟨by omega, by omega, by omega⟩
      refine x_aload_n hX dX0_safe_16 rfl ?_
      refine x_iload_n hX dX0_safe_17 rfl ?_
      refine x_iload_n hX dX0_safe_18 rfl ?_
      refine x_iload_n hX dX0_safe_19 rfl ?_
      refine x_callI hX (by decide) [vI f, vI s, vI lim] [] (tX0_firstAbove l D dA h q G wt bs f s lim ⟨by omega, by omega⟩ hB hf hs9) q162 q164 qs10 q25 q165 (show dsc (xR 0) yX0_firstAbove 3 by decide +kernel) (by decide) rfl (Nat.le_of_ble_eq_true rfl) dX0_safe_20 (fun r2 u hu => ?_)
      obtain ⟨G3, sc2⟩ := u
      obtain ⟨m2, hN2, w2, b2, hsc⟩ := hu
      dsimp only at m2 hN2 hsc
      subst hsc
      have rb : -2 ≤ r2 ∧ r2 ≤ 1023 := by
        rcases m2 with ⟨e, -⟩ | ⟨x, y, e1, -, -, e2⟩
        · omega
        · obtain ⟨f1, f2, f3⟩ := id hf
          obtain ⟨g1, g2, g3⟩ := id hs9
          unfold inBx at e1
          omega
      refine x_bipush hX dX0_safe_23 (by decide +kernel) ?_
      refine x_icmp_ne (tgt := 32) hX dX0_safe_25 (by decide) ⟨by omega, by omega⟩ ⟨by omega, by omega⟩ (fun c3 => ?_) (fun c3 => ?_)
      · refine x_iconst hX dX0_safe_32 ?_
        exact hret _ _ _ _ dX0_safe_33 (by first | exact ⟨Or.inl ⟨by unfold okI; omega, rfl⟩, rfl, _, _, rfl⟩ | exact ⟨Or.inr ⟨hf, hs9, by first | exact Or.inl ⟨rfl, by rw [← show r2 = -2 by omega]; exact m2⟩ | exact Or.inr ⟨rfl, r2, by omega, m2⟩⟩, hN2, _, _, rfl⟩)
      · refine x_iconst hX dX0_safe_28 ?_
        refine x_goto (tgt := 33) hX dX0_safe_29 (by decide) ?_
        exact hret _ _ _ _ dX0_safe_33 (by first | exact ⟨Or.inl ⟨by unfold okI; omega, rfl⟩, rfl, _, _, rfl⟩ | exact ⟨Or.inr ⟨hf, hs9, by first | exact Or.inl ⟨rfl, by rw [← show r2 = -2 by omega]; exact m2⟩ | exact Or.inr ⟨rfl, r2, by omega, m2⟩⟩, hN2, _, _, rfl⟩)
    · refine x_iconst hX dX0_safe_14 ?_
      exact hret _ _ _ _ dX0_safe_15 (by first | exact ⟨Or.inl ⟨by unfold okI; omega, rfl⟩, rfl, _, _, rfl⟩ | exact ⟨Or.inr ⟨hf, hs9, by first | exact Or.inl ⟨rfl, by rw [← show r2 = -2 by omega]; exact m2⟩ | exact Or.inr ⟨rfl, r2, by omega, m2⟩⟩, hN2, _, _, rfl⟩)
set_option maxHeartbeats 4000000 in
theorem tX0_breach (l : Launch) (D : va_G) (dA : Bool → ClassId) (h : Nat) (q : Nat → Nat) (G : Nat → Nat → Int) (wt bs : Int) (f s lim : Int) (hf0 : inR f) (hs0 : inR s) (hlim : inR lim) (hB : NB (G 0)) : XM l yX0_breach cX0_breach 4 (some .int) 4 D dA (xw 0 dA h q) [.ref h, vI f, vI s, vI lim] (G, [wt, bs]) (fun r u => RBox (QBreach (G 0) lim) (-1) f s r ∧ u.1 0 = G 0 ∧ shp0 u.2) := by
  refine XM.of (by decide +kernel) (by simp [Value.category]) (Nat.le_of_ble_eq_true rfl) ?_
  intro X hX hret
  have hX : XOK l (xR 0) cX0_breach 4 (rmL 4) D dA (xw 0 dA h q) X := hX
  refine x_iload_n hX dX0_breach_0 rfl ?_
  refine x_callS hX [vI f] [] (tX0_isInterval l D dA f ⟨by omega, by omega⟩) q115 q116 q25 q117 (show dsc yX0_isInterval.cls yX0_isInterval 1 by decide +kernel) (by decide) rfl (Nat.le_of_ble_eq_true rfl) dX0_breach_1 (fun r1 hr1 => ?_)
  refine x_if_eq (tgt := 14) hX dX0_breach_4 (by decide) ⟨by omega, by omega⟩ (fun c1 => ?_) (fun c1 => ?_)
  · refine x_iconst hX dX0_breach_14 ?_
    exact hret _ _ _ _ dX0_breach_15 (by first | exact ⟨Or.inl ⟨by unfold okI; omega, rfl⟩, rfl, _, _, rfl⟩ | exact ⟨Or.inr ⟨hf, hs9, m2⟩, hN2, _, _, rfl⟩)
  · refine x_iload_n hX dX0_breach_7 rfl ?_
    refine x_callS hX [vI s] [] (tX0_isInterval l D dA s ⟨by omega, by omega⟩) q115 q116 q25 q117 (show dsc yX0_isInterval.cls yX0_isInterval 1 by decide +kernel) (by decide) rfl (Nat.le_of_ble_eq_true rfl) dX0_breach_8 (fun r8 hr8 => ?_)
    refine x_if_ne (tgt := 16) hX dX0_breach_11 (by decide) ⟨by omega, by omega⟩ (fun c2 => ?_) (fun c2 => ?_)
    · have hf : okI f := ⟨by omega, by omega, by omega⟩
      have hs9 : okI s := ⟨by omega, by omega, by omega⟩
      refine x_aload_n hX dX0_breach_16 rfl ?_
      refine x_iload_n hX dX0_breach_17 rfl ?_
      refine x_iload_n hX dX0_breach_18 rfl ?_
      refine x_iload_n hX dX0_breach_19 rfl ?_
      refine x_callI hX (by decide) [vI f, vI s, vI lim] [] (tX0_firstAbove l D dA h q G wt bs f s lim ⟨by omega, by omega⟩ hB hf hs9) q162 q164 qs10 q25 q165 (show dsc (xR 0) yX0_firstAbove 3 by decide +kernel) (by decide) rfl (Nat.le_of_ble_eq_true rfl) dX0_breach_20 (fun r2 u hu => ?_)
      obtain ⟨G3, sc2⟩ := u
      obtain ⟨m2, hN2, w2, b2, hsc⟩ := hu
      dsimp only at m2 hN2 hsc
      subst hsc
      exact hret _ _ _ _ dX0_breach_23 (by first | exact ⟨Or.inl ⟨by unfold okI; omega, rfl⟩, rfl, _, _, rfl⟩ | exact ⟨Or.inr ⟨hf, hs9, m2⟩, hN2, _, _, rfl⟩)
    · refine x_iconst hX dX0_breach_14 ?_
      exact hret _ _ _ _ dX0_breach_15 (by first | exact ⟨Or.inl ⟨by unfold okI; omega, rfl⟩, rfl, _, _, rfl⟩ | exact ⟨Or.inr ⟨hf, hs9, m2⟩, hN2, _, _, rfl⟩)
end
section
set_option maxRecDepth 100000
set_option maxHeartbeats 4000000 in
theorem tX0_fixed (l : Launch) (D : va_G) (dA : Bool → ClassId) (h : Nat) (q : Nat → Nat) (G : Nat → Nat → Int) (wt bs : Int) (t f s : Int) (ht : inR t) (hf0 : inR f) (hs0 : inR s) (hB : NB (G 0)) : XM l yX0_fixed cX0_fixed 6 (some .int) 4 D dA (xw 0 dA h q) [.ref h, vI t, vI f, vI s] (G, [wt, bs]) (fun r u => RFixed (G 0) t f s r ∧ u.1 0 = G 0 ∧ shp0 u.2) := by
  refine XM.of (by decide +kernel) (by simp [Value.category]) (Nat.le_of_ble_eq_true rfl) ?_
  intro X hX hret
  have hX : XOK l (xR 0) cX0_fixed 6 (rmL 4) D dA (xw 0 dA h q) X := hX
  refine x_iload_n hX dX0_fixed_0 rfl ?_
  refine x_if_lt (tgt := 9) hX dX0_fixed_1 (by decide) ⟨by omega, by omega⟩ (fun c1 => ?_) (fun c1 => ?_)
  · refine x_iconst hX dX0_fixed_9 ?_
    exact hret _ _ _ _ dX0_fixed_10 (by first | exact ⟨Or.inl ⟨by omega, rfl⟩, rfl, _, _, rfl⟩ | exact ⟨Or.inr ⟨t.toNat, by omega, by omega, Or.inl ⟨by unfold okI; omega, rfl⟩⟩, rfl, _, _, rfl⟩ | exact ⟨Or.inr ⟨t.toNat, by omega, by omega, Or.inr ⟨hf, hs9, Or.inl ⟨rfl, fun x y hx => by have := m1 x y hx; omega⟩⟩⟩, hN1, _, _, rfl⟩ | exact ⟨Or.inr ⟨t.toNat, by omega, by omega, Or.inr ⟨hf, hs9, Or.inr (Or.inl ⟨rfl, fun x y hx => by have := m2 x y hx; rw [hN1] at this; omega⟩)⟩⟩, hN2.trans hN1, _, _, rfl⟩ | exact ⟨Or.inr ⟨t.toNat, by omega, by omega, Or.inr ⟨hf, hs9, Or.inr (Or.inr ⟨rfl, by obtain ⟨x, y, e1, e2⟩ := k1; exact ⟨x, y, e1, by omega⟩, by obtain ⟨x, y, e1, e2⟩ := k2; rw [hN1] at e2; exact ⟨x, y, e1, by omega⟩⟩)⟩⟩, hN2.trans hN1, _, _, rfl⟩)
  · refine x_iload_n hX dX0_fixed_4 rfl ?_
    refine x_iconst hX dX0_fixed_5 ?_
    refine x_icmp_le (tgt := 11) hX dX0_fixed_6 (by decide) ⟨by omega, by omega⟩ ⟨by omega, by omega⟩ (fun c2 => ?_) (fun c2 => ?_)
    · refine x_iload_n hX dX0_fixed_11 rfl ?_
      refine x_callS hX [vI f] [] (tX0_isInterval l D dA f ⟨by omega, by omega⟩) q115 q116 q25 q117 (show dsc yX0_isInterval.cls yX0_isInterval 1 by decide +kernel) (by decide) rfl (Nat.le_of_ble_eq_true rfl) dX0_fixed_12 (fun r12 hr12 => ?_)
      refine x_if_eq (tgt := 25) hX dX0_fixed_15 (by decide) ⟨by omega, by omega⟩ (fun c3 => ?_) (fun c3 => ?_)
      · refine x_bipush hX dX0_fixed_25 (by decide +kernel) ?_
        exact hret _ _ _ _ dX0_fixed_27 (by first | exact ⟨Or.inl ⟨by omega, rfl⟩, rfl, _, _, rfl⟩ | exact ⟨Or.inr ⟨t.toNat, by omega, by omega, Or.inl ⟨by unfold okI; omega, rfl⟩⟩, rfl, _, _, rfl⟩ | exact ⟨Or.inr ⟨t.toNat, by omega, by omega, Or.inr ⟨hf, hs9, Or.inl ⟨rfl, fun x y hx => by have := m1 x y hx; omega⟩⟩⟩, hN1, _, _, rfl⟩ | exact ⟨Or.inr ⟨t.toNat, by omega, by omega, Or.inr ⟨hf, hs9, Or.inr (Or.inl ⟨rfl, fun x y hx => by have := m2 x y hx; rw [hN1] at this; omega⟩)⟩⟩, hN2.trans hN1, _, _, rfl⟩ | exact ⟨Or.inr ⟨t.toNat, by omega, by omega, Or.inr ⟨hf, hs9, Or.inr (Or.inr ⟨rfl, by obtain ⟨x, y, e1, e2⟩ := k1; exact ⟨x, y, e1, by omega⟩, by obtain ⟨x, y, e1, e2⟩ := k2; rw [hN1] at e2; exact ⟨x, y, e1, by omega⟩⟩)⟩⟩, hN2.trans hN1, _, _, rfl⟩)
      · refine x_iload_n hX dX0_fixed_18 rfl ?_
        refine x_callS hX [vI s] [] (tX0_isInterval l D dA s ⟨by omega, by omega⟩) q115 q116 q25 q117 (show dsc yX0_isInterval.cls yX0_isInterval 1 by decide +kernel) (by decide) rfl (Nat.le_of_ble_eq_true rfl) dX0_fixed_19 (fun r19 hr19 => ?_)
        refine x_if_ne (tgt := 28) hX dX0_fixed_22 (by decide) ⟨by omega, by omega⟩ (fun c4 => ?_) (fun c4 => ?_)
        · have hf : okI f := ⟨by omega, by omega, by omega⟩
          have hs9 : okI s := ⟨by omega, by omega, by omega⟩
          refine x_aload_n hX dX0_fixed_28 rfl ?_
          refine x_iload_n hX dX0_fixed_29 rfl ?_
          refine x_iload_n hX dX0_fixed_30 rfl ?_
          refine x_iload_n hX dX0_fixed_31 rfl ?_
          refine x_iconst hX dX0_fixed_32 ?_
          refine x_callI hX (by decide) [vI f, vI s, vI t, vI 1] [] (tX0_extreme l D dA h q G wt bs f s t 1 t.toNat (by omega) (by omega) (by omega) hB hf hs9) q118 q120 qs1 q25 q121 (show dsc (xR 0) yX0_extreme 4 by decide +kernel) (by decide) rfl (Nat.le_of_ble_eq_true rfl) dX0_fixed_33 (fun r1 u hu => ?_)
          obtain ⟨G2, sc1⟩ := u
          obtain ⟨m1, k1, hN1, w1, b1, hsc⟩ := hu
          dsimp only at m1 k1 hN1 hsc
          subst hsc
          have rb1 : -32050 ≤ r1 ∧ r1 ≤ 32050 := by
            obtain ⟨x, y, e1, e2⟩ := k1
            unfold cBx inBx at e1
            have := nV_b (show NB (G 0) from hB) t.toNat (x := x) (y := y) (by omega) (by omega)
            rw [e2]
            omega
          refine x_istore (vs' := [.ref h, vI t, vI f, vI s, vI r1]) hX dX0_fixed_36 ⟨Nat.le_of_ble_eq_true rfl, Nat.le_of_ble_eq_true rfl⟩ rfl ?_
          refine x_iload hX dX0_fixed_38 rfl ?_
          refine x_if_gt (tgt := 45) hX dX0_fixed_40 (by decide) ⟨by omega, by omega⟩ (fun c5 => ?_) (fun c5 => ?_)
          · refine x_aload_n hX dX0_fixed_45 rfl ?_
            refine x_iload_n hX dX0_fixed_46 rfl ?_
            refine x_iload_n hX dX0_fixed_47 rfl ?_
            refine x_iload_n hX dX0_fixed_48 rfl ?_
            refine x_iconst hX dX0_fixed_49 ?_
            refine x_callI hX (by decide) [vI f, vI s, vI t, vI ((-1))] [] (tX0_extreme l D dA h q G2 w1 b1 f s t (-1) t.toNat (by omega) (by omega) (by omega) (by rw [hN1]; exact hB) hf hs9) q118 q120 qs1 q25 q121 (show dsc (xR 0) yX0_extreme 4 by decide +kernel) (by decide) rfl (Nat.le_of_ble_eq_true rfl) dX0_fixed_50 (fun r2 u hu => ?_)
            obtain ⟨G3, sc2⟩ := u
            obtain ⟨m2, k2, hN2, w2, b2, hsc⟩ := hu
            dsimp only at m2 k2 hN2 hsc
            subst hsc
            have rb2 : -32050 ≤ r2 ∧ r2 ≤ 32050 := by
              obtain ⟨x, y, e1, e2⟩ := k2
              unfold cBx inBx at e1
              have := nV_b (show NB (G2 0) from (by rw [hN1]; exact hB)) t.toNat (x := x) (y := y) (by omega) (by omega)
              rw [e2]
              omega
            refine x_ineg hX dX0_fixed_53 ?_
            refine x_istore (vs' := [.ref h, vI t, vI f, vI s, vI r1, vI (-r2)]) hX dX0_fixed_54 ⟨Nat.le_of_ble_eq_true rfl, Nat.le_of_ble_eq_true rfl⟩ rfl ?_
            refine x_iload hX dX0_fixed_56 rfl ?_
            refine x_if_le (tgt := 65) hX dX0_fixed_58 (by decide) ⟨by omega, by omega⟩ (fun c6 => ?_) (fun c6 => ?_)
            · refine x_iconst hX dX0_fixed_65 ?_
              exact hret _ _ _ _ dX0_fixed_66 (by first | exact ⟨Or.inl ⟨by omega, rfl⟩, rfl, _, _, rfl⟩ | exact ⟨Or.inr ⟨t.toNat, by omega, by omega, Or.inl ⟨by unfold okI; omega, rfl⟩⟩, rfl, _, _, rfl⟩ | exact ⟨Or.inr ⟨t.toNat, by omega, by omega, Or.inr ⟨hf, hs9, Or.inl ⟨rfl, fun x y hx => by have := m1 x y hx; omega⟩⟩⟩, hN1, _, _, rfl⟩ | exact ⟨Or.inr ⟨t.toNat, by omega, by omega, Or.inr ⟨hf, hs9, Or.inr (Or.inl ⟨rfl, fun x y hx => by have := m2 x y hx; rw [hN1] at this; omega⟩)⟩⟩, hN2.trans hN1, _, _, rfl⟩ | exact ⟨Or.inr ⟨t.toNat, by omega, by omega, Or.inr ⟨hf, hs9, Or.inr (Or.inr ⟨rfl, by obtain ⟨x, y, e1, e2⟩ := k1; exact ⟨x, y, e1, by omega⟩, by obtain ⟨x, y, e1, e2⟩ := k2; rw [hN1] at e2; exact ⟨x, y, e1, by omega⟩⟩)⟩⟩, hN2.trans hN1, _, _, rfl⟩)
            · refine x_iconst hX dX0_fixed_61 ?_
              refine x_goto (tgt := 66) hX dX0_fixed_62 (by decide) ?_
              exact hret _ _ _ _ dX0_fixed_66 (by first | exact ⟨Or.inl ⟨by omega, rfl⟩, rfl, _, _, rfl⟩ | exact ⟨Or.inr ⟨t.toNat, by omega, by omega, Or.inl ⟨by unfold okI; omega, rfl⟩⟩, rfl, _, _, rfl⟩ | exact ⟨Or.inr ⟨t.toNat, by omega, by omega, Or.inr ⟨hf, hs9, Or.inl ⟨rfl, fun x y hx => by have := m1 x y hx; omega⟩⟩⟩, hN1, _, _, rfl⟩ | exact ⟨Or.inr ⟨t.toNat, by omega, by omega, Or.inr ⟨hf, hs9, Or.inr (Or.inl ⟨rfl, fun x y hx => by have := m2 x y hx; rw [hN1] at this; omega⟩)⟩⟩, hN2.trans hN1, _, _, rfl⟩ | exact ⟨Or.inr ⟨t.toNat, by omega, by omega, Or.inr ⟨hf, hs9, Or.inr (Or.inr ⟨rfl, by obtain ⟨x, y, e1, e2⟩ := k1; exact ⟨x, y, e1, by omega⟩, by obtain ⟨x, y, e1, e2⟩ := k2; rw [hN1] at e2; exact ⟨x, y, e1, by omega⟩⟩)⟩⟩, hN2.trans hN1, _, _, rfl⟩)
          · refine x_iconst hX dX0_fixed_43 ?_
            exact hret _ _ _ _ dX0_fixed_44 (by first | exact ⟨Or.inl ⟨by omega, rfl⟩, rfl, _, _, rfl⟩ | exact ⟨Or.inr ⟨t.toNat, by omega, by omega, Or.inl ⟨by unfold okI; omega, rfl⟩⟩, rfl, _, _, rfl⟩ | exact ⟨Or.inr ⟨t.toNat, by omega, by omega, Or.inr ⟨hf, hs9, Or.inl ⟨rfl, fun x y hx => by have := m1 x y hx; omega⟩⟩⟩, hN1, _, _, rfl⟩ | exact ⟨Or.inr ⟨t.toNat, by omega, by omega, Or.inr ⟨hf, hs9, Or.inr (Or.inl ⟨rfl, fun x y hx => by have := m2 x y hx; rw [hN1] at this; omega⟩)⟩⟩, hN2.trans hN1, _, _, rfl⟩ | exact ⟨Or.inr ⟨t.toNat, by omega, by omega, Or.inr ⟨hf, hs9, Or.inr (Or.inr ⟨rfl, by obtain ⟨x, y, e1, e2⟩ := k1; exact ⟨x, y, e1, by omega⟩, by obtain ⟨x, y, e1, e2⟩ := k2; rw [hN1] at e2; exact ⟨x, y, e1, by omega⟩⟩)⟩⟩, hN2.trans hN1, _, _, rfl⟩)
        · refine x_bipush hX dX0_fixed_25 (by decide +kernel) ?_
          exact hret _ _ _ _ dX0_fixed_27 (by first | exact ⟨Or.inl ⟨by omega, rfl⟩, rfl, _, _, rfl⟩ | exact ⟨Or.inr ⟨t.toNat, by omega, by omega, Or.inl ⟨by unfold okI; omega, rfl⟩⟩, rfl, _, _, rfl⟩ | exact ⟨Or.inr ⟨t.toNat, by omega, by omega, Or.inr ⟨hf, hs9, Or.inl ⟨rfl, fun x y hx => by have := m1 x y hx; omega⟩⟩⟩, hN1, _, _, rfl⟩ | exact ⟨Or.inr ⟨t.toNat, by omega, by omega, Or.inr ⟨hf, hs9, Or.inr (Or.inl ⟨rfl, fun x y hx => by have := m2 x y hx; rw [hN1] at this; omega⟩)⟩⟩, hN2.trans hN1, _, _, rfl⟩ | exact ⟨Or.inr ⟨t.toNat, by omega, by omega, Or.inr ⟨hf, hs9, Or.inr (Or.inr ⟨rfl, by obtain ⟨x, y, e1, e2⟩ := k1; exact ⟨x, y, e1, by omega⟩, by obtain ⟨x, y, e1, e2⟩ := k2; rw [hN1] at e2; exact ⟨x, y, e1, by omega⟩⟩)⟩⟩, hN2.trans hN1, _, _, rfl⟩)
    · refine x_iconst hX dX0_fixed_9 ?_
      exact hret _ _ _ _ dX0_fixed_10 (by first | exact ⟨Or.inl ⟨by omega, rfl⟩, rfl, _, _, rfl⟩ | exact ⟨Or.inr ⟨t.toNat, by omega, by omega, Or.inl ⟨by unfold okI; omega, rfl⟩⟩, rfl, _, _, rfl⟩ | exact ⟨Or.inr ⟨t.toNat, by omega, by omega, Or.inr ⟨hf, hs9, Or.inl ⟨rfl, fun x y hx => by have := m1 x y hx; omega⟩⟩⟩, hN1, _, _, rfl⟩ | exact ⟨Or.inr ⟨t.toNat, by omega, by omega, Or.inr ⟨hf, hs9, Or.inr (Or.inl ⟨rfl, fun x y hx => by have := m2 x y hx; rw [hN1] at this; omega⟩)⟩⟩, hN2.trans hN1, _, _, rfl⟩ | exact ⟨Or.inr ⟨t.toNat, by omega, by omega, Or.inr ⟨hf, hs9, Or.inr (Or.inr ⟨rfl, by obtain ⟨x, y, e1, e2⟩ := k1; exact ⟨x, y, e1, by omega⟩, by obtain ⟨x, y, e1, e2⟩ := k2; rw [hN1] at e2; exact ⟨x, y, e1, by omega⟩⟩)⟩⟩, hN2.trans hN1, _, _, rfl⟩)
theorem ball_ok {x r : Int} (hx : okX x) (hr : 0 ≤ r) : (-16 ≤ lo16 x r ∧ lo16 x r ≤ x) ∧ (x ≤ hi16 x r ∧ hi16 x r ≤ 15) := by
  unfold lo16 hi16
  constructor <;> split <;> omega
theorem ball_code {x r c : Int} (hx : okX x) (hr : 0 ≤ r) (hc : c = 32 * (lo16 x r + 16) + hi16 x r + 16) : okI c ∧ c / 32 - 16 = lo16 x r ∧ c % 32 - 16 = hi16 x r := by
  have := ball_ok hx hr
  unfold okI
  omega
set_option maxHeartbeats 4000000 in
theorem tX0_radius (l : Launch) (D : va_G) (dA : Bool → ClassId) (h : Nat) (q : Nat → Nat) (G : Nat → Nat → Int) (wt bs : Int) (x0 x1 lim : Int) (h0 : inR x0) (h1 : inR x1) (hlim : inR lim) (hB : NB (G 0)) : XM l yX0_radius cX0_radius 10 (some .int) 4 D dA (xw 0 dA h q) [.ref h, vI x0, vI x1, vI lim] (G, [wt, bs]) (fun r u => RRad (G 0) x0 x1 lim r ∧ u.1 0 = G 0 ∧ shp0 u.2) := by
  refine XM.of (by decide +kernel) (by simp [Value.category]) (Nat.le_of_ble_eq_true rfl) ?_
  intro X hX hret
  have hX : XOK l (xR 0) cX0_radius 10 (rmL 4) D dA (xw 0 dA h q) X := hX
  have L : okX x0 → okX x1 → ∀ (m k : Nat) (g bad i w b : Int) (G' : Nat → Nat → Int), k + m = 5 → i = (k : Int) → (0 ≤ g ∧ g < bad ∧ bad ≤ 32) → bad - g ≤ ((2 ^ m : Nat) : Int) → AllLe (G 0) lim x0 x1 g → (bad = 32 ∨ ¬ AllLe (G 0) lim x0 x1 bad) → G' 0 = G 0 → X (G', [w, b]) 45 [.ref h, vI x0, vI x1, vI lim, vI g, vI bad, vI i] [] := by
    intro o0 o1 m
    induction m using Nat.strongRecOn with
    | _ m ih =>
      intro k g bad i w b G' hk hi hgb hw hgood hbad hN
      have hend : bad - g ≤ 1 → X (G', [w, b]) 117 [.ref h, vI x0, vI x1, vI lim, vI g, vI bad, vI i] [] := by
        intro hd
        refine x_iload hX dX0_radius_117 rfl ?_
        have eb : bad = g + 1 := by omega
        subst eb
        exact hret _ _ _ _ dX0_radius_119 ⟨Or.inr ⟨o0, o1, Or.inr ⟨by omega, by omega, hgood, by rcases hbad with e | e; exact Or.inl (by omega); exact Or.inr e⟩⟩, hN, _, _, rfl⟩
      refine x_iload hX dX0_radius_45 rfl ?_
      refine x_bipush hX dX0_radius_47 (by decide +kernel) ?_
      refine x_icmp_ge (tgt := 117) hX dX0_radius_49 (by decide) ⟨by omega, by omega⟩ ⟨by omega, by omega⟩ (fun c1 => absurd c1 (by omega)) (fun c1 => ?_)
      refine x_iload hX dX0_radius_52 rfl ?_
      refine x_iload hX dX0_radius_54 rfl ?_
      refine x_isub hX dX0_radius_56 ?_
      refine x_iconst hX dX0_radius_57 ?_
      refine x_icmp_le (tgt := 117) hX dX0_radius_58 (by decide) ⟨by omega, by omega⟩ ⟨by omega, by omega⟩ (fun c2 => ?_) (fun c2 => ?_)
      · exact hend (by omega)
      · obtain ⟨m, rfl⟩ : ∃ m', m = m' + 1 := by
          cases m with
          | zero => simp at hw; omega
          | succ m => exact ⟨m, rfl⟩
        refine x_iload hX dX0_radius_61 rfl ?_
        refine x_iload hX dX0_radius_63 rfl ?_
        refine x_iadd hX dX0_radius_65 ?_
        refine x_iconst hX dX0_radius_66 ?_
        refine x_ishr (v := iI ((g + bad) / 2)) hX dX0_radius_67 (iI_shr1 ⟨by omega, by omega⟩) ?_
        refine x_top (fun y1 ey1 => ?_)
        refine x_istore (vs' := [.ref h, vI x0, vI x1, vI lim, vI g, vI bad, vI i, vI y1]) hX dX0_radius_68 ⟨Nat.le_of_ble_eq_true rfl, Nat.le_of_ble_eq_true rfl⟩ rfl ?_
        refine x_iload_n hX dX0_radius_70 rfl ?_
        refine x_iload hX dX0_radius_71 rfl ?_
        refine x_callS hX [vI x0, vI y1] [] (tX0_around l D dA x0 y1 (by omega) (by omega)) q182 q183 q25 q184 (show dsc yX0_around.cls yX0_around 2 by decide +kernel) (by decide) rfl (Nat.le_of_ble_eq_true rfl) dX0_radius_73 (fun c8_ hc8 => ?_)
        have q8 := ball_code (x := x0) (r := y1) (c := c8_) (by omega) (by omega) hc8
        refine x_istore (vs' := [.ref h, vI x0, vI x1, vI lim, vI g, vI bad, vI i, vI y1, vI c8_]) hX dX0_radius_76 ⟨Nat.le_of_ble_eq_true rfl, Nat.le_of_ble_eq_true rfl⟩ rfl ?_
        refine x_iload_n hX dX0_radius_78 rfl ?_
        refine x_iload hX dX0_radius_79 rfl ?_
        refine x_callS hX [vI x1, vI y1] [] (tX0_around l D dA x1 y1 (by omega) (by omega)) q182 q183 q25 q184 (show dsc yX0_around.cls yX0_around 2 by decide +kernel) (by decide) rfl (Nat.le_of_ble_eq_true rfl) dX0_radius_81 (fun c9_ hc9 => ?_)
        have q9 := ball_code (x := x1) (r := y1) (c := c9_) (by omega) (by omega) hc9
        refine x_istore (vs' := [.ref h, vI x0, vI x1, vI lim, vI g, vI bad, vI i, vI y1, vI c8_, vI c9_]) hX dX0_radius_84 ⟨Nat.le_of_ble_eq_true rfl, Nat.le_of_ble_eq_true rfl⟩ rfl ?_
        refine x_aload_n hX dX0_radius_86 rfl ?_
        refine x_iload hX dX0_radius_87 rfl ?_
        refine x_iload hX dX0_radius_89 rfl ?_
        refine x_iload_n hX dX0_radius_91 rfl ?_
        refine x_callI hX (by decide) [vI c8_, vI c9_, vI lim] [] (tX0_firstAbove l D dA h q G' w b c8_ c9_ lim ⟨by omega, by omega⟩ (by rw [hN]; exact hB) q8.1 q9.1) q162 q164 qs10 q25 q165 (show dsc (xR 0) yX0_firstAbove 3 by decide +kernel) (by decide) rfl (Nat.le_of_ble_eq_true rfl) dX0_radius_92 (fun r2 u hu => ?_)
        obtain ⟨G3, sc3⟩ := u
        obtain ⟨m2, hN2, w2, b2, hsc⟩ := hu
        dsimp only at m2 hN2 hsc
        subst hsc
        rw [hN, q8.2.1, q8.2.2, q9.2.1, q9.2.2] at m2
        have hN3 := hN2.trans hN
        have z8 := ball_ok (x := x0) (r := y1) (by omega) (by omega)
        have z9 := ball_ok (x := x1) (r := y1) (by omega) (by omega)
        have rb : -2 ≤ r2 ∧ r2 ≤ 1023 := by
          rcases m2 with ⟨e, -⟩ | ⟨x, y, e1, -, -, e2⟩
          · omega
          · unfold inBx at e1
            omega
        refine x_bipush hX dX0_radius_95 (by decide +kernel) ?_
        refine x_icmp_ne (tgt := 107) hX dX0_radius_97 (by decide) ⟨by omega, by omega⟩ ⟨by omega, by omega⟩ (fun c3 => ?_) (fun c3 => ?_)
        · refine x_iload hX dX0_radius_107 rfl ?_
          refine x_istore (vs' := [.ref h, vI x0, vI x1, vI lim, vI g, vI y1, vI i, vI y1, vI c8_, vI c9_]) hX dX0_radius_109 ⟨Nat.le_of_ble_eq_true rfl, Nat.le_of_ble_eq_true rfl⟩ rfl ?_
          refine x_iinc (vs' := [.ref h, vI x0, vI x1, vI lim, vI g, vI y1, vI (i + 1), vI y1, vI c8_, vI c9_]) hX dX0_radius_111 rfl (by decide) rfl ?_
          refine x_goto (tgt := 45) hX dX0_radius_114 (by decide) ?_
          refine x_take hX 7 (vs' := [.ref h, vI x0, vI x1, vI lim, vI g, vI y1, vI (i + 1)]) rfl ?_
          exact ih m (by omega) (k + 1) _ _ _ _ _ _ (by omega) (by omega) (by omega) (by rw [Nat.pow_succ] at hw; omega) hgood (Or.inr (fun hall => by rcases m2 with ⟨e, -⟩ | ⟨x', y', e1, e2, -, -⟩; omega; (have := hall x' y' e1; omega))) hN3
        · refine x_iload hX dX0_radius_100 rfl ?_
          refine x_istore (vs' := [.ref h, vI x0, vI x1, vI lim, vI y1, vI bad, vI i, vI y1, vI c8_, vI c9_]) hX dX0_radius_102 ⟨Nat.le_of_ble_eq_true rfl, Nat.le_of_ble_eq_true rfl⟩ rfl ?_
          refine x_goto (tgt := 111) hX dX0_radius_104 (by decide) ?_
          refine x_iinc (vs' := [.ref h, vI x0, vI x1, vI lim, vI y1, vI bad, vI (i + 1), vI y1, vI c8_, vI c9_]) hX dX0_radius_111 rfl (by decide) rfl ?_
          refine x_goto (tgt := 45) hX dX0_radius_114 (by decide) ?_
          refine x_take hX 7 (vs' := [.ref h, vI x0, vI x1, vI lim, vI y1, vI bad, vI (i + 1)]) rfl ?_
          exact ih m (by omega) (k + 1) _ _ _ _ _ _ (by omega) (by omega) (by omega) (by rw [Nat.pow_succ] at hw; omega) (fun x y hx => by rcases m2 with ⟨-, e⟩ | ⟨x', y', e1, e2, e3, e4⟩; exact e x y hx; (unfold inBx at e1; omega)) hbad hN3
  refine x_iload_n hX dX0_radius_0 rfl ?_
  refine x_callS hX [vI x0] [] (tX0_isInput l D dA x0 ⟨by omega, by omega⟩) q99 q100 q25 q101 (show dsc yX0_isInput.cls yX0_isInput 1 by decide +kernel) (by decide) rfl (Nat.le_of_ble_eq_true rfl) dX0_radius_1 (fun r1 hr1 => ?_)
  refine x_if_eq (tgt := 14) hX dX0_radius_4 (by decide) ⟨by omega, by omega⟩ (fun c1 => ?_) (fun c1 => ?_)
  · refine x_iconst hX dX0_radius_14 ?_
    exact hret _ _ _ _ dX0_radius_15 (by first | exact ⟨Or.inl ⟨by omega, rfl⟩, rfl, _, _, rfl⟩ | exact ⟨Or.inr ⟨by omega, by omega, Or.inl ⟨rfl, fun z => by have := (AllLe.zero (by omega) (by omega)).mp z; omega⟩⟩, hN2, _, _, rfl⟩)
  · refine x_iload_n hX dX0_radius_7 rfl ?_
    refine x_callS hX [vI x1] [] (tX0_isInput l D dA x1 ⟨by omega, by omega⟩) q99 q100 q25 q101 (show dsc yX0_isInput.cls yX0_isInput 1 by decide +kernel) (by decide) rfl (Nat.le_of_ble_eq_true rfl) dX0_radius_8 (fun r8 hr8 => ?_)
    refine x_if_ne (tgt := 16) hX dX0_radius_11 (by decide) ⟨by omega, by omega⟩ (fun c2 => ?_) (fun c2 => ?_)
    · refine x_aload_n hX dX0_radius_16 rfl ?_
      refine x_iload_n hX dX0_radius_17 rfl ?_
      refine x_iload_n hX dX0_radius_18 rfl ?_
      refine x_callV hX (by decide) [vI x0, vI x1] [] (tX0_work l D dA h q G _ x0 x1 hB (by omega) (by omega)) q103 q105 qs0 q25 q106 (show dsc (xR 0) yX0_work 2 by decide +kernel) (by decide) rfl (Nat.le_of_ble_eq_true rfl) dX0_radius_19 (fun u hu => ?_)
      obtain ⟨G2, sc2⟩ := u
      obtain ⟨fr, hun, hsc⟩ := hu
      dsimp only at fr hun hsc
      subst hsc
      have hN2 : G2 0 = G 0 := fr 0 (by omega)
      have hv := hun 5 (by omega)
      have hb := nV_b hB 5 (x := x0) (y := x1) (by omega) (by omega)
      refine x_aload_n hX dX0_radius_22 rfl ?_
      refine x_getA hX (by decide) 1 (by decide) q36 dX0_radius_23 ?_
      refine x_iconst hX dX0_radius_26 ?_
      refine x_iald hX 1 5 (by decide) (by omega) (show _ < 6 by omega) rfl dX0_radius_27 ?_
      refine x_iload_n hX dX0_radius_28 rfl ?_
      refine x_icmp_le (tgt := 35) hX dX0_radius_29 (by decide) ⟨by omega, by omega⟩ ⟨by omega, by omega⟩ (fun c3 => ?_) (fun c3 => ?_)
      · refine x_iconst hX dX0_radius_35 ?_
        refine x_istore (vs' := [.ref h, vI x0, vI x1, vI lim, vI 0]) hX dX0_radius_36 ⟨Nat.le_of_ble_eq_true rfl, Nat.le_of_ble_eq_true rfl⟩ rfl ?_
        refine x_bipush hX dX0_radius_38 (by decide +kernel) ?_
        refine x_istore (vs' := [.ref h, vI x0, vI x1, vI lim, vI 0, vI 32]) hX dX0_radius_40 ⟨Nat.le_of_ble_eq_true rfl, Nat.le_of_ble_eq_true rfl⟩ rfl ?_
        refine x_iconst hX dX0_radius_42 ?_
        refine x_istore (vs' := [.ref h, vI x0, vI x1, vI lim, vI 0, vI 32, vI 0]) hX dX0_radius_43 ⟨Nat.le_of_ble_eq_true rfl, Nat.le_of_ble_eq_true rfl⟩ rfl ?_
        refine L (by omega) (by omega) 5 0 _ _ _ _ _ G2 rfl rfl (by omega) (by simp) ((AllLe.zero (by omega) (by omega)).mpr (by omega)) (Or.inl rfl) hN2
      · refine x_bipush hX dX0_radius_32 (by decide +kernel) ?_
        exact hret _ _ _ _ dX0_radius_34 (by first | exact ⟨Or.inl ⟨by omega, rfl⟩, rfl, _, _, rfl⟩ | exact ⟨Or.inr ⟨by omega, by omega, Or.inl ⟨rfl, fun z => by have := (AllLe.zero (by omega) (by omega)).mp z; omega⟩⟩, hN2, _, _, rfl⟩)
    · refine x_iconst hX dX0_radius_14 ?_
      exact hret _ _ _ _ dX0_radius_15 (by first | exact ⟨Or.inl ⟨by omega, rfl⟩, rfl, _, _, rfl⟩ | exact ⟨Or.inr ⟨by omega, by omega, Or.inl ⟨rfl, fun z => by have := (AllLe.zero (by omega) (by omega)).mp z; omega⟩⟩, hN2, _, _, rfl⟩)
end
section
set_option maxRecDepth 100000
set_option maxHeartbeats 4000000 in
theorem tX1_offset (l : Launch) (D : va_G) (dA : Bool → ClassId) (h : Nat) (q : Nat → Nat) (G : Nat → Nat → Int) (sc : List Int) (x : Int) (hx : inR x) : XM l yX1_offset cX1_offset 2 (some .boolean) 0 D dA (xw 1 dA h q) [.ref h, vI x] (G, sc) (fun r u => ((r = 1 ∧ ((6 ≤ x ∧ x ≤ 8) ∨ x = 15 ∨ x = 16 ∨ x = 19)) ∨ (r = 0 ∧ ¬ ((6 ≤ x ∧ x ≤ 8) ∨ x = 15 ∨ x = 16 ∨ x = 19))) ∧ u = (G, sc)) := by
  refine XM.ofZ (by decide +kernel) (by simp [Value.category]) (Nat.le_of_ble_eq_true rfl) ?_
  intro X hX hret
  have hX : XOK l (xR 1) cX1_offset 2 (rmL 0) D dA (xw 1 dA h q) X := hX
  refine x_iload_n hX dX1_offset_0 rfl ?_
  refine x_iconst hX dX1_offset_1 ?_
  refine x_icmp_le (tgt := 11) hX dX1_offset_2 (by decide) ⟨by omega, by omega⟩ ⟨by omega, by omega⟩ (fun c1 => ?_) (fun c1 => ?_)
  · refine x_iload_n hX dX1_offset_11 rfl ?_
    refine x_bipush hX dX1_offset_12 (by decide +kernel) ?_
    refine x_icmp_eq (tgt := 29) hX dX1_offset_14 (by decide) ⟨by omega, by omega⟩ ⟨by omega, by omega⟩ (fun c2 => ?_) (fun c2 => ?_)
    · refine x_iconst hX dX1_offset_29 ?_
      refine x_goto (tgt := 34) hX dX1_offset_30 (by decide) ?_
      exact hret _ _ _ _ dX1_offset_34 (by decide) ⟨by omega, rfl⟩
    · refine x_iload_n hX dX1_offset_17 rfl ?_
      refine x_bipush hX dX1_offset_18 (by decide +kernel) ?_
      refine x_icmp_eq (tgt := 29) hX dX1_offset_20 (by decide) ⟨by omega, by omega⟩ ⟨by omega, by omega⟩ (fun c3 => ?_) (fun c3 => ?_)
      · refine x_iconst hX dX1_offset_29 ?_
        refine x_goto (tgt := 34) hX dX1_offset_30 (by decide) ?_
        exact hret _ _ _ _ dX1_offset_34 (by decide) ⟨by omega, rfl⟩
      · refine x_iload_n hX dX1_offset_23 rfl ?_
        refine x_bipush hX dX1_offset_24 (by decide +kernel) ?_
        refine x_icmp_ne (tgt := 33) hX dX1_offset_26 (by decide) ⟨by omega, by omega⟩ ⟨by omega, by omega⟩ (fun c4 => ?_) (fun c4 => ?_)
        · refine x_iconst hX dX1_offset_33 ?_
          exact hret _ _ _ _ dX1_offset_34 (by decide) ⟨by omega, rfl⟩
        · refine x_iconst hX dX1_offset_29 ?_
          refine x_goto (tgt := 34) hX dX1_offset_30 (by decide) ?_
          exact hret _ _ _ _ dX1_offset_34 (by decide) ⟨by omega, rfl⟩
  · refine x_iload_n hX dX1_offset_5 rfl ?_
    refine x_bipush hX dX1_offset_6 (by decide +kernel) ?_
    refine x_icmp_lt (tgt := 29) hX dX1_offset_8 (by decide) ⟨by omega, by omega⟩ ⟨by omega, by omega⟩ (fun c5 => ?_) (fun c5 => ?_)
    · refine x_iconst hX dX1_offset_29 ?_
      refine x_goto (tgt := 34) hX dX1_offset_30 (by decide) ?_
      exact hret _ _ _ _ dX1_offset_34 (by decide) ⟨by omega, rfl⟩
    · refine x_iload_n hX dX1_offset_11 rfl ?_
      refine x_bipush hX dX1_offset_12 (by decide +kernel) ?_
      refine x_icmp_eq (tgt := 29) hX dX1_offset_14 (by decide) ⟨by omega, by omega⟩ ⟨by omega, by omega⟩ (fun c6 => ?_) (fun c6 => ?_)
      · refine x_iconst hX dX1_offset_29 ?_
        refine x_goto (tgt := 34) hX dX1_offset_30 (by decide) ?_
        exact hret _ _ _ _ dX1_offset_34 (by decide) ⟨by omega, rfl⟩
      · refine x_iload_n hX dX1_offset_17 rfl ?_
        refine x_bipush hX dX1_offset_18 (by decide +kernel) ?_
        refine x_icmp_eq (tgt := 29) hX dX1_offset_20 (by decide) ⟨by omega, by omega⟩ ⟨by omega, by omega⟩ (fun c7 => ?_) (fun c7 => ?_)
        · refine x_iconst hX dX1_offset_29 ?_
          refine x_goto (tgt := 34) hX dX1_offset_30 (by decide) ?_
          exact hret _ _ _ _ dX1_offset_34 (by decide) ⟨by omega, rfl⟩
        · refine x_iload_n hX dX1_offset_23 rfl ?_
          refine x_bipush hX dX1_offset_24 (by decide +kernel) ?_
          refine x_icmp_ne (tgt := 33) hX dX1_offset_26 (by decide) ⟨by omega, by omega⟩ ⟨by omega, by omega⟩ (fun c8 => ?_) (fun c8 => ?_)
          · refine x_iconst hX dX1_offset_33 ?_
            exact hret _ _ _ _ dX1_offset_34 (by decide) ⟨by omega, rfl⟩
          · refine x_iconst hX dX1_offset_29 ?_
            refine x_goto (tgt := 34) hX dX1_offset_30 (by decide) ?_
            exact hret _ _ _ _ dX1_offset_34 (by decide) ⟨by omega, rfl⟩
set_option maxHeartbeats 4000000 in
theorem tX1_bad (l : Launch) (D : va_G) (dA : Bool → ClassId) (h : Nat) (q : Nat → Nat) (G : Nat → Nat → Int) (sc : List Int) (x : Int) (hx : inR x) : XM l yX1_bad cX1_bad 2 (some .boolean) 0 D dA (xw 1 dA h q) [.ref h, vI x] (G, sc) (fun r u => ((r = 1 ∧ (¬ (-16 ≤ x ∧ x < 16))) ∨ (r = 0 ∧ ¬ (¬ (-16 ≤ x ∧ x < 16)))) ∧ u = (G, sc)) := by
  refine XM.ofZ (by decide +kernel) (by simp [Value.category]) (Nat.le_of_ble_eq_true rfl) ?_
  intro X hX hret
  have hX : XOK l (xR 1) cX1_bad 2 (rmL 0) D dA (xw 1 dA h q) X := hX
  refine x_iload_n hX dX1_bad_0 rfl ?_
  refine x_bipush hX dX1_bad_1 (by decide +kernel) ?_
  refine x_icmp_lt (tgt := 12) hX dX1_bad_3 (by decide) ⟨by omega, by omega⟩ ⟨by omega, by omega⟩ (fun c1 => ?_) (fun c1 => ?_)
  · refine x_iconst hX dX1_bad_12 ?_
    refine x_goto (tgt := 17) hX dX1_bad_13 (by decide) ?_
    exact hret _ _ _ _ dX1_bad_17 (by decide) ⟨by omega, rfl⟩
  · refine x_iload_n hX dX1_bad_6 rfl ?_
    refine x_bipush hX dX1_bad_7 (by decide +kernel) ?_
    refine x_icmp_le (tgt := 16) hX dX1_bad_9 (by decide) ⟨by omega, by omega⟩ ⟨by omega, by omega⟩ (fun c2 => ?_) (fun c2 => ?_)
    · refine x_iconst hX dX1_bad_16 ?_
      exact hret _ _ _ _ dX1_bad_17 (by decide) ⟨by omega, rfl⟩
    · refine x_iconst hX dX1_bad_12 ?_
      refine x_goto (tgt := 17) hX dX1_bad_13 (by decide) ?_
      exact hret _ _ _ _ dX1_bad_17 (by decide) ⟨by omega, rfl⟩
set_option maxHeartbeats 4000000 in
theorem tX1_badInterval (l : Launch) (D : va_G) (dA : Bool → ClassId) (h : Nat) (q : Nat → Nat) (G : Nat → Nat → Int) (sc : List Int) (x : Int) (hx : inR x) : XM l yX1_badInterval cX1_badInterval 2 (some .boolean) 0 D dA (xw 1 dA h q) [.ref h, vI x] (G, sc) (fun r u => ((r = 1 ∧ (¬ (0 ≤ x ∧ x ≤ 1023 ∧ x / 32 ≤ x % 32))) ∨ (r = 0 ∧ ¬ (¬ (0 ≤ x ∧ x ≤ 1023 ∧ x / 32 ≤ x % 32)))) ∧ u = (G, sc)) := by
  refine XM.ofZ (by decide +kernel) (by simp [Value.category]) (Nat.le_of_ble_eq_true rfl) ?_
  intro X hX hret
  have hX : XOK l (xR 1) cX1_badInterval 2 (rmL 0) D dA (xw 1 dA h q) X := hX
  refine x_iload_n hX dX1_badInterval_0 rfl ?_
  refine x_if_lt (tgt := 22) hX dX1_badInterval_1 (by decide) ⟨by omega, by omega⟩ (fun c1 => ?_) (fun c1 => ?_)
  · refine x_iconst hX dX1_badInterval_22 ?_
    refine x_goto (tgt := 27) hX dX1_badInterval_23 (by decide) ?_
    exact hret _ _ _ _ dX1_badInterval_27 (by decide) ⟨by omega, rfl⟩
  · refine x_iload_n hX dX1_badInterval_4 rfl ?_
    refine x_sipush hX dX1_badInterval_5 (by decide +kernel) ?_
    refine x_icmp_gt (tgt := 22) hX dX1_badInterval_8 (by decide) ⟨by omega, by omega⟩ ⟨by omega, by omega⟩ (fun c2 => ?_) (fun c2 => ?_)
    · refine x_iconst hX dX1_badInterval_22 ?_
      refine x_goto (tgt := 27) hX dX1_badInterval_23 (by decide) ?_
      exact hret _ _ _ _ dX1_badInterval_27 (by decide) ⟨by omega, rfl⟩
    · refine x_iload_n hX dX1_badInterval_11 rfl ?_
      refine x_bipush hX dX1_badInterval_12 (by decide +kernel) ?_
      refine x_idiv (v := iI (x / 32)) hX dX1_badInterval_14 (by decide +kernel) (iI_div (by omega) (by omega) (by decide) (by decide)) ?_
      refine x_iload_n hX dX1_badInterval_15 rfl ?_
      refine x_bipush hX dX1_badInterval_16 (by decide +kernel) ?_
      refine x_irem (v := iI (x % 32)) hX dX1_badInterval_18 (by decide +kernel) (iI_rem (by omega) (by omega) (by decide) (by decide)) ?_
      refine x_icmp_le (tgt := 26) hX dX1_badInterval_19 (by decide) ⟨by omega, by omega⟩ ⟨by omega, by omega⟩ (fun c3 => ?_) (fun c3 => ?_)
      · refine x_iconst hX dX1_badInterval_26 ?_
        exact hret _ _ _ _ dX1_badInterval_27 (by decide) ⟨by omega, rfl⟩
      · refine x_iconst hX dX1_badInterval_22 ?_
        refine x_goto (tgt := 27) hX dX1_badInterval_23 (by decide) ?_
        exact hret _ _ _ _ dX1_badInterval_27 (by decide) ⟨by omega, rfl⟩
set_option maxHeartbeats 4000000 in
theorem tX1_clip (l : Launch) (D : va_G) (dA : Bool → ClassId) (h : Nat) (q : Nat → Nat) (G : Nat → Nat → Int) (sc : List Int) (t : Int) (ht : inR t) : XM l yX1_clip cX1_clip 2 (some .int) 0 D dA (xw 1 dA h q) [.ref h, vI t] (G, sc) (fun r u => r = cl t ∧ u = (G, sc)) := by
  refine XM.of (by decide +kernel) (by simp [Value.category]) (Nat.le_of_ble_eq_true rfl) ?_
  intro X hX hret
  have hX : XOK l (xR 1) cX1_clip 2 (rmL 0) D dA (xw 1 dA h q) X := hX
  refine x_iload_n hX dX1_clip_0 rfl ?_
  refine x_if_le (tgt := 8) hX dX1_clip_1 (by decide) ⟨by omega, by omega⟩ (fun c1 => ?_) (fun c1 => ?_)
  · refine x_iconst hX dX1_clip_8 ?_
    exact hret _ _ _ _ dX1_clip_9 ⟨by first | rw [cl_p (by omega)] | rw [cl_n (by omega)], rfl⟩
  · refine x_iload_n hX dX1_clip_4 rfl ?_
    refine x_goto (tgt := 9) hX dX1_clip_5 (by decide) ?_
    exact hret _ _ _ _ dX1_clip_9 ⟨by first | rw [cl_p (by omega)] | rw [cl_n (by omega)], rfl⟩
set_option maxHeartbeats 4000000 in
theorem tX1_inner (l : Launch) (D : va_G) (dA : Bool → ClassId) (h : Nat) (q : Nat → Nat) (G : Nat → Nat → Int) (sc : List Int) (k : Nat) (i : Int) (hi : i = (k : Int)) (hk : k < 3) (x y : Int) (hB : NB (G 0)) (hx : -16 ≤ x ∧ x ≤ 16) (hy : -16 ≤ y ∧ y ≤ 16) : XM l yX1_inner cX1_inner 4 (some .int) 1 D dA (xw 1 dA h q) [.ref h, vI i, vI x, vI y] (G, sc) (fun r u => r = cl (s1 (G 0) k x y) ∧ u = (G, sc)) := by
  refine XM.of (by decide +kernel) (by simp [Value.category]) (Nat.le_of_ble_eq_true rfl) ?_
  intro X hX hret
  have hX : XOK l (xR 1) cX1_inner 4 (rmL 1) D dA (xw 1 dA h q) X := hX
  have hb := s1_b hB hk hx hy
  refine x_aload_n hX dX1_inner_0 rfl ?_
  refine x_aload_n hX dX1_inner_1 rfl ?_
  refine x_getA hX (by decide) 0 (by decide) q199 dX1_inner_2 ?_
  refine x_iconst hX dX1_inner_5 ?_
  refine x_iload_n hX dX1_inner_6 rfl ?_
  refine x_imul hX dX1_inner_7 ?_
  refine x_iald hX 0 (2 * k) (by decide) (by omega) (show _ < 20 by omega) rfl dX1_inner_8 ?_
  refine x_iload_n hX dX1_inner_9 rfl ?_
  refine x_imul hX dX1_inner_10 ?_
  refine x_aload_n hX dX1_inner_11 rfl ?_
  refine x_getA hX (by decide) 0 (by decide) q199 dX1_inner_12 ?_
  refine x_iconst hX dX1_inner_15 ?_
  refine x_iload_n hX dX1_inner_16 rfl ?_
  refine x_imul hX dX1_inner_17 ?_
  refine x_iconst hX dX1_inner_18 ?_
  refine x_iadd hX dX1_inner_19 ?_
  refine x_iald hX 0 ((2 * k) + 1) (by decide) (by omega) (show _ < 20 by omega) rfl dX1_inner_20 ?_
  refine x_iload_n hX dX1_inner_21 rfl ?_
  refine x_imul hX dX1_inner_22 ?_
  refine x_iadd hX dX1_inner_23 ?_
  refine x_aload_n hX dX1_inner_24 rfl ?_
  refine x_getA hX (by decide) 0 (by decide) q199 dX1_inner_25 ?_
  refine x_bipush hX dX1_inner_28 (by decide +kernel) ?_
  refine x_iload_n hX dX1_inner_30 rfl ?_
  refine x_iadd hX dX1_inner_31 ?_
  refine x_iald hX 0 (6 + k) (by decide) (by omega) (show _ < 20 by omega) rfl dX1_inner_32 ?_
  refine x_iadd hX dX1_inner_33 ?_
  refine x_callI hX (by decide) [vI ((G 0 (2 * k)) * x + (G 0 ((2 * k) + 1)) * y + (G 0 (6 + k)))] [] (tX1_clip l D dA h q G sc (s1 (G 0) k x y) ⟨by omega, by omega⟩) q252 q254 qs17 q26 q255 (show dsc (xR 1) yX1_clip 1 by decide +kernel) (by decide) rfl (Nat.le_of_ble_eq_true rfl) dX1_inner_34 (fun r1 u1 hu1 => ?_)
  obtain ⟨hr1, rfl⟩ := hu1
  exact hret _ _ _ _ dX1_inner_37 ⟨hr1, rfl⟩
set_option maxHeartbeats 4000000 in
theorem tX1_outer (l : Launch) (D : va_G) (dA : Bool → ClassId) (h : Nat) (q : Nat → Nat) (G : Nat → Nat → Int) (sc : List Int) (k : Nat) (i : Int) (hi : i = (k : Int)) (hk : k < 2) (x y : Int) (hB : NB (G 0)) (hx : -16 ≤ x ∧ x ≤ 16) (hy : -16 ≤ y ∧ y ≤ 16) : XM l yX1_outer cX1_outer 6 (some .int) 2 D dA (xw 1 dA h q) [.ref h, vI i, vI x, vI y] (G, sc) (fun r u => r = cl (s2 (G 0) k x y) ∧ u = (G, sc)) := by
  refine XM.of (by decide +kernel) (by simp [Value.category]) (Nat.le_of_ble_eq_true rfl) ?_
  intro X hX hret
  have hX : XOK l (xR 1) cX1_outer 6 (rmL 2) D dA (xw 1 dA h q) X := hX
  have hb := s2_b hB hk hx hy
  have L : ∀ (n t : Nat) (i2 sum : Int), t ≤ 3 → 4 ≤ t + n → i2 = (t : Int) → sum = ps2 (G 0) k x y t → X (G, sc) 14 [.ref h, vI i, vI x, vI y, vI sum, vI i2] [] := by
    intro n
    induction n with
    | zero => intro t i2 sum e1 e2; exact absurd e2 (by omega)
    | succ n ih =>
      intro t i2 sum e1 e2 hi2 hs
      refine x_iload hX dX1_outer_14 rfl ?_
      refine x_iconst hX dX1_outer_16 ?_
      refine x_icmp_ge (tgt := 54) hX dX1_outer_17 (by decide) ⟨by omega, by omega⟩ ⟨by omega, by omega⟩ (fun c1 => ?_) (fun c1 => ?_)
      · have e3 : t = 3 := by omega
        subst e3
        have es : sum = s2 (G 0) k x y := hs
        refine x_aload_n hX dX1_outer_54 rfl ?_
        refine x_iload hX dX1_outer_55 rfl ?_
        refine x_callI hX (by decide) [vI sum] [] (tX1_clip l D dA h q G sc sum ⟨by omega, by omega⟩) q252 q254 qs17 q26 q255 (show dsc (xR 1) yX1_clip 1 by decide +kernel) (by decide) rfl (Nat.le_of_ble_eq_true rfl) dX1_outer_57 (fun r2 u2 hu2 => ?_)
        obtain ⟨hr2, rfl⟩ := hu2
        exact hret _ _ _ _ dX1_outer_60 ⟨by rw [hr2, es], rfl⟩
      · refine x_iload hX dX1_outer_20 rfl ?_
        refine x_aload_n hX dX1_outer_22 rfl ?_
        refine x_getA hX (by decide) 0 (by decide) q199 dX1_outer_23 ?_
        refine x_bipush hX dX1_outer_26 (by decide +kernel) ?_
        refine x_iconst hX dX1_outer_28 ?_
        refine x_iload_n hX dX1_outer_29 rfl ?_
        refine x_imul hX dX1_outer_30 ?_
        refine x_iadd hX dX1_outer_31 ?_
        refine x_iload hX dX1_outer_32 rfl ?_
        refine x_iadd hX dX1_outer_34 ?_
        refine x_iald hX 0 ((9 + (3 * k)) + t) (by decide) (by omega) (show _ < 20 by omega) rfl dX1_outer_35 ?_
        refine x_aload_n hX dX1_outer_36 rfl ?_
        refine x_iload hX dX1_outer_37 rfl ?_
        refine x_iload_n hX dX1_outer_39 rfl ?_
        refine x_iload_n hX dX1_outer_40 rfl ?_
        refine x_callI hX (by decide) [vI i2, vI x, vI y] [vI (G 0 ((9 + (3 * k)) + t)), vI sum] (tX1_inner l D dA h q G sc t i2 hi2 (by omega) x y hB hx hy) q248 q250 qs16 q26 q251 (show dsc (xR 1) yX1_inner 3 by decide +kernel) (by decide) rfl (Nat.le_of_ble_eq_true rfl) dX1_outer_41 (fun r1 u1 hu1 => ?_)
        obtain ⟨hr1, rfl⟩ := hu1
        refine x_imul hX dX1_outer_44 ?_
        refine x_iadd hX dX1_outer_45 ?_
        refine x_istore (vs' := [.ref h, vI i, vI x, vI y, vI (sum + (G 0 ((9 + (3 * k)) + t)) * r1), vI i2]) hX dX1_outer_46 ⟨Nat.le_of_ble_eq_true rfl, Nat.le_of_ble_eq_true rfl⟩ rfl ?_
        refine x_iinc (vs' := [.ref h, vI i, vI x, vI y, vI (sum + (G 0 ((9 + (3 * k)) + t)) * r1), vI (i2 + 1)]) hX dX1_outer_48 rfl (by decide) rfl ?_
        refine x_goto (tgt := 14) hX dX1_outer_51 (by decide) ?_
        exact ih (t + 1) _ _ (by omega) (by omega) (by omega) (by rw [hs, hr1]; rfl)
  refine x_aload_n hX dX1_outer_0 rfl ?_
  refine x_getA hX (by decide) 0 (by decide) q199 dX1_outer_1 ?_
  refine x_bipush hX dX1_outer_4 (by decide +kernel) ?_
  refine x_iload_n hX dX1_outer_6 rfl ?_
  refine x_iadd hX dX1_outer_7 ?_
  refine x_iald hX 0 (15 + k) (by decide) (by omega) (show _ < 20 by omega) rfl dX1_outer_8 ?_
  refine x_istore (vs' := [.ref h, vI i, vI x, vI y, vI (G 0 (15 + k))]) hX dX1_outer_9 ⟨Nat.le_of_ble_eq_true rfl, Nat.le_of_ble_eq_true rfl⟩ rfl ?_
  refine x_iconst hX dX1_outer_11 ?_
  refine x_istore (vs' := [.ref h, vI i, vI x, vI y, vI (G 0 (15 + k)), vI 0]) hX dX1_outer_12 ⟨Nat.le_of_ble_eq_true rfl, Nat.le_of_ble_eq_true rfl⟩ rfl ?_
  exact L 4 0 0 _ (by omega) (by omega) rfl rfl
set_option maxHeartbeats 4000000 in
theorem tX1_given (l : Launch) (D : va_G) (dA : Bool → ClassId) (h : Nat) (q : Nat → Nat) (G : Nat → Nat → Int) (sc : List Int) (x y : Int) (hB : NB (G 0)) (hx : -16 ≤ x ∧ x ≤ 16) (hy : -16 ≤ y ∧ y ≤ 16) : XM l yX1_given cX1_given 3 (some .int) 3 D dA (xw 1 dA h q) [.ref h, vI x, vI y] (G, sc) (fun r u => r = nV (G 0) 5 x y ∧ u = (G, sc)) := by
  refine XM.of (by decide +kernel) (by simp [Value.category]) (Nat.le_of_ble_eq_true rfl) ?_
  intro X hX hret
  have hX : XOK l (xR 1) cX1_given 3 (rmL 3) D dA (xw 1 dA h q) X := hX
  refine x_aload_n hX dX1_given_0 rfl ?_
  refine x_getA hX (by decide) 0 (by decide) q199 dX1_given_1 ?_
  refine x_bipush hX dX1_given_4 (by decide +kernel) ?_
  refine x_iald hX 0 17 (by decide) (by omega) (show _ < 20 by omega) rfl dX1_given_6 ?_
  refine x_aload_n hX dX1_given_7 rfl ?_
  refine x_iconst hX dX1_given_8 ?_
  refine x_iload_n hX dX1_given_9 rfl ?_
  refine x_iload_n hX dX1_given_10 rfl ?_
  refine x_callI hX (by decide) [vI 0, vI x, vI y] [vI (G 0 17)] (tX1_outer l D dA h q G sc 0 0 rfl (by omega) x y hB hx hy) q244 q246 qs15 q26 q247 (show dsc (xR 1) yX1_outer 3 by decide +kernel) (by decide) rfl (Nat.le_of_ble_eq_true rfl) dX1_given_11 (fun r1 u1 hu1 => ?_)
  obtain ⟨hr1, rfl⟩ := hu1
  refine x_imul hX dX1_given_14 ?_
  refine x_aload_n hX dX1_given_15 rfl ?_
  refine x_getA hX (by decide) 0 (by decide) q199 dX1_given_16 ?_
  refine x_bipush hX dX1_given_19 (by decide +kernel) ?_
  refine x_iald hX 0 18 (by decide) (by omega) (show _ < 20 by omega) rfl dX1_given_21 ?_
  refine x_aload_n hX dX1_given_22 rfl ?_
  refine x_iconst hX dX1_given_23 ?_
  refine x_iload_n hX dX1_given_24 rfl ?_
  refine x_iload_n hX dX1_given_25 rfl ?_
  refine x_callI hX (by decide) [vI 1, vI x, vI y] [vI (G 0 18), vI ((G 0 17) * r1)] (tX1_outer l D dA h q G sc 1 1 rfl (by omega) x y hB hx hy) q244 q246 qs15 q26 q247 (show dsc (xR 1) yX1_outer 3 by decide +kernel) (by decide) rfl (Nat.le_of_ble_eq_true rfl) dX1_given_26 (fun r2 u2 hu2 => ?_)
  obtain ⟨hr2, rfl⟩ := hu2
  refine x_imul hX dX1_given_29 ?_
  refine x_iadd hX dX1_given_30 ?_
  refine x_aload_n hX dX1_given_31 rfl ?_
  refine x_getA hX (by decide) 0 (by decide) q199 dX1_given_32 ?_
  refine x_bipush hX dX1_given_35 (by decide +kernel) ?_
  refine x_iald hX 0 19 (by decide) (by omega) (show _ < 20 by omega) rfl dX1_given_37 ?_
  refine x_iadd hX dX1_given_38 ?_
  exact hret _ _ _ _ dX1_given_39 ⟨by rw [hr1, hr2]; show _ = G 0 19 + G 0 (17 + 0) * cl (s2 (G 0) 0 x y) + G 0 (17 + 1) * cl (s2 (G 0) 1 x y); simp only [Nat.add_zero, Nat.reduceAdd]; omega, rfl⟩
set_option maxHeartbeats 4000000 in
theorem tX1_unitGiven (l : Launch) (D : va_G) (dA : Bool → ClassId) (h : Nat) (q : Nat → Nat) (G : Nat → Nat → Int) (sc : List Int) (k : Nat) (i : Int) (hi : i = (k : Int)) (hk : k < 5) (x y : Int) (hB : NB (G 0)) (hx : -16 ≤ x ∧ x ≤ 16) (hy : -16 ≤ y ∧ y ≤ 16) : XM l yX1_unitGiven cX1_unitGiven 4 (some .int) 3 D dA (xw 1 dA h q) [.ref h, vI i, vI x, vI y] (G, sc) (fun r u => r = cl (nV (G 0) k x y) ∧ u = (G, sc)) := by
  refine XM.of (by decide +kernel) (by simp [Value.category]) (Nat.le_of_ble_eq_true rfl) ?_
  intro X hX hret
  have hX : XOK l (xR 1) cX1_unitGiven 4 (rmL 3) D dA (xw 1 dA h q) X := hX
  refine x_iload_n hX dX1_unitGiven_0 rfl ?_
  refine x_iconst hX dX1_unitGiven_1 ?_
  refine x_icmp_ge (tgt := 15) hX dX1_unitGiven_2 (by decide) ⟨by omega, by omega⟩ ⟨by omega, by omega⟩ (fun c1 => ?_) (fun c1 => ?_)
  · refine x_aload_n hX dX1_unitGiven_15 rfl ?_
    refine x_iload_n hX dX1_unitGiven_16 rfl ?_
    refine x_iconst hX dX1_unitGiven_17 ?_
    refine x_isub hX dX1_unitGiven_18 ?_
    refine x_iload_n hX dX1_unitGiven_19 rfl ?_
    refine x_iload_n hX dX1_unitGiven_20 rfl ?_
    refine x_callI hX (by decide) [vI (i - 3), vI x, vI y] [] (tX1_outer l D dA h q G sc (k - 3) (i - 3) (by omega) (by omega) x y hB hx hy) q244 q246 qs15 q26 q247 (show dsc (xR 1) yX1_outer 3 by decide +kernel) (by decide) rfl (Nat.le_of_ble_eq_true rfl) dX1_unitGiven_21 (fun r2 u2 hu2 => ?_)
    obtain ⟨hr2, rfl⟩ := hu2
    exact hret _ _ _ _ dX1_unitGiven_24 (by first | exact ⟨by rw [hr1, nV_1 (by omega)], rfl⟩ | exact ⟨by rw [hr2]; unfold nV; rw [if_neg (by omega), if_pos (by omega)], rfl⟩)
  · refine x_aload_n hX dX1_unitGiven_5 rfl ?_
    refine x_iload_n hX dX1_unitGiven_6 rfl ?_
    refine x_iload_n hX dX1_unitGiven_7 rfl ?_
    refine x_iload_n hX dX1_unitGiven_8 rfl ?_
    refine x_callI hX (by decide) [vI i, vI x, vI y] [] (tX1_inner l D dA h q G sc k i hi (by omega) x y hB hx hy) q248 q250 qs16 q26 q251 (show dsc (xR 1) yX1_inner 3 by decide +kernel) (by decide) rfl (Nat.le_of_ble_eq_true rfl) dX1_unitGiven_9 (fun r1 u1 hu1 => ?_)
    obtain ⟨hr1, rfl⟩ := hu1
    refine x_goto (tgt := 24) hX dX1_unitGiven_12 (by decide) ?_
    exact hret _ _ _ _ dX1_unitGiven_24 (by first | exact ⟨by rw [hr1, nV_1 (by omega)], rfl⟩ | exact ⟨by rw [hr2]; unfold nV; rw [if_neg (by omega), if_pos (by omega)], rfl⟩)
set_option maxHeartbeats 4000000 in
theorem tX1_take (l : Launch) (D : va_G) (dA : Bool → ClassId) (h : Nat) (q : Nat → Nat) (G : Nat → Nat → Int) (a1 a2 a3 a4 : Int) (f s : Int) (hf0 : inR f) (hs0 : inR s) : XM l yX1_take cX1_take 3 (some .boolean) 1 D dA (xw 1 dA h q) [.ref h, vI f, vI s] (G, [a1, a2, a3, a4]) (fun r u => (r = 1 ∧ okI f ∧ okI s ∧ u = (G, [f / 32 - 16, f % 32 - 16, s / 32 - 16, s % 32 - 16])) ∨ (r = 0 ∧ ¬ (okI f ∧ okI s) ∧ u = (G, [a1, a2, a3, a4]))) := by
  refine XM.ofZ (by decide +kernel) (by simp [Value.category]) (Nat.le_of_ble_eq_true rfl) ?_
  intro X hX hret
  have hX : XOK l (xR 1) cX1_take 3 (rmL 1) D dA (xw 1 dA h q) X := hX
  refine x_aload_n hX dX1_take_0 rfl ?_
  refine x_iload_n hX dX1_take_1 rfl ?_
  refine x_callI hX (by decide) [vI f] [] (tX1_badInterval l D dA h q G _ f ⟨by omega, by omega⟩) q272 q274 qs20 q26 q275 (show dsc (xR 1) yX1_badInterval 1 by decide +kernel) (by decide) rfl (Nat.le_of_ble_eq_true rfl) dX1_take_2 (fun r1 u1 hu1 => ?_)
  obtain ⟨hr1, rfl⟩ := hu1
  refine x_if_ne (tgt := 16) hX dX1_take_5 (by decide) ⟨by omega, by omega⟩ (fun c1 => ?_) (fun c1 => ?_)
  · refine x_iconst hX dX1_take_16 ?_
    exact hret _ _ _ _ dX1_take_17 (by decide) (by first | exact Or.inl ⟨rfl, by unfold okI; omega, by unfold okI; omega, rfl⟩ | exact Or.inr ⟨rfl, by unfold okI; omega, rfl⟩)
  · refine x_aload_n hX dX1_take_8 rfl ?_
    refine x_iload_n hX dX1_take_9 rfl ?_
    refine x_callI hX (by decide) [vI s] [] (tX1_badInterval l D dA h q G _ s ⟨by omega, by omega⟩) q272 q274 qs20 q26 q275 (show dsc (xR 1) yX1_badInterval 1 by decide +kernel) (by decide) rfl (Nat.le_of_ble_eq_true rfl) dX1_take_10 (fun r2 u2 hu2 => ?_)
    obtain ⟨hr2, rfl⟩ := hu2
    refine x_if_eq (tgt := 18) hX dX1_take_13 (by decide) ⟨by omega, by omega⟩ (fun c2 => ?_) (fun c2 => ?_)
    · refine x_aload_n hX dX1_take_18 rfl ?_
      refine x_iload_n hX dX1_take_19 rfl ?_
      refine x_bipush hX dX1_take_20 (by decide +kernel) ?_
      refine x_idiv (v := iI (f / 32)) hX dX1_take_22 (by decide +kernel) (iI_div (by omega) (by omega) (by decide) (by decide)) ?_
      refine x_bipush hX dX1_take_23 (by decide +kernel) ?_
      refine x_isub hX dX1_take_25 ?_
      refine x_putS (sc' := [f / 32 - 16, a2, a3, a4]) hX (by decide) 0 rfl (by decide) rfl (by decide +kernel) q200 dX1_take_26 rfl ?_
      refine x_aload_n hX dX1_take_29 rfl ?_
      refine x_iload_n hX dX1_take_30 rfl ?_
      refine x_bipush hX dX1_take_31 (by decide +kernel) ?_
      refine x_irem (v := iI (f % 32)) hX dX1_take_33 (by decide +kernel) (iI_rem (by omega) (by omega) (by decide) (by decide)) ?_
      refine x_bipush hX dX1_take_34 (by decide +kernel) ?_
      refine x_isub hX dX1_take_36 ?_
      refine x_putS (sc' := [f / 32 - 16, f % 32 - 16, a3, a4]) hX (by decide) 1 rfl (by decide) rfl (by decide +kernel) q201 dX1_take_37 rfl ?_
      refine x_aload_n hX dX1_take_40 rfl ?_
      refine x_iload_n hX dX1_take_41 rfl ?_
      refine x_bipush hX dX1_take_42 (by decide +kernel) ?_
      refine x_idiv (v := iI (s / 32)) hX dX1_take_44 (by decide +kernel) (iI_div (by omega) (by omega) (by decide) (by decide)) ?_
      refine x_bipush hX dX1_take_45 (by decide +kernel) ?_
      refine x_isub hX dX1_take_47 ?_
      refine x_putS (sc' := [f / 32 - 16, f % 32 - 16, s / 32 - 16, a4]) hX (by decide) 2 rfl (by decide) rfl (by decide +kernel) q202 dX1_take_48 rfl ?_
      refine x_aload_n hX dX1_take_51 rfl ?_
      refine x_iload_n hX dX1_take_52 rfl ?_
      refine x_bipush hX dX1_take_53 (by decide +kernel) ?_
      refine x_irem (v := iI (s % 32)) hX dX1_take_55 (by decide +kernel) (iI_rem (by omega) (by omega) (by decide) (by decide)) ?_
      refine x_bipush hX dX1_take_56 (by decide +kernel) ?_
      refine x_isub hX dX1_take_58 ?_
      refine x_putS (sc' := [f / 32 - 16, f % 32 - 16, s / 32 - 16, s % 32 - 16]) hX (by decide) 3 rfl (by decide) rfl (by decide +kernel) q203 dX1_take_59 rfl ?_
      refine x_iconst hX dX1_take_62 ?_
      exact hret _ _ _ _ dX1_take_63 (by decide) (by first | exact Or.inl ⟨rfl, by unfold okI; omega, by unfold okI; omega, rfl⟩ | exact Or.inr ⟨rfl, by unfold okI; omega, rfl⟩)
    · refine x_iconst hX dX1_take_16 ?_
      exact hret _ _ _ _ dX1_take_17 (by decide) (by first | exact Or.inl ⟨rfl, by unfold okI; omega, by unfold okI; omega, rfl⟩ | exact Or.inr ⟨rfl, by unfold okI; omega, rfl⟩)
set_option maxHeartbeats 4000000 in
theorem tX1_marks (l : Launch) (D : va_G) (dA : Bool → ClassId) (h : Nat) (q : Nat → Nat) (G : Nat → Nat → Int) (sc : List Int) (x y : Int) (hB : NB (G 0)) (hx : -16 ≤ x ∧ x ≤ 16) (hy : -16 ≤ y ∧ y ≤ 16) : XM l yX1_marks cX1_marks 5 (some .int) 4 D dA (xw 1 dA h q) [.ref h, vI x, vI y] (G, sc) (fun r u => r = (ptn (G 0) x y : Nat) ∧ u = (G, sc)) := by
  refine XM.of (by decide +kernel) (by simp [Value.category]) (Nat.le_of_ble_eq_true rfl) ?_
  intro X hX hret
  have hX : XOK l (xR 1) cX1_marks 5 (rmL 4) D dA (xw 1 dA h q) X := hX
  have L : ∀ (n k p : Nat) (i j : Int), k ≤ 5 → 6 ≤ k + n → i = (k : Int) → j = (p : Int) → p = patN (fun t => decide (0 < nV (G 0) t x y)) k → X (G, sc) 5 [.ref h, vI x, vI y, vI j, vI i] [] := by
    intro n
    induction n with
    | zero => intro k p i j e1 e2; exact absurd e2 (by omega)
    | succ n ih =>
      intro k p i j e1 e2 hi hp hpp
      refine x_iload hX dX1_marks_5 rfl ?_
      refine x_iconst hX dX1_marks_7 ?_
      refine x_icmp_ge (tgt := 35) hX dX1_marks_8 (by decide) ⟨by omega, by omega⟩ ⟨by omega, by omega⟩ (fun c1 => ?_) (fun c1 => ?_)
      · have e5 : k = 5 := by omega
        subst e5
        refine x_iload_n hX dX1_marks_35 rfl ?_
        exact hret _ _ _ _ dX1_marks_36 ⟨by rw [hp, hpp]; rfl, rfl⟩
      · have hk : k < 5 := by omega
        refine x_aload_n hX dX1_marks_11 rfl ?_
        refine x_iload hX dX1_marks_12 rfl ?_
        refine x_iload_n hX dX1_marks_14 rfl ?_
        refine x_iload_n hX dX1_marks_15 rfl ?_
        refine x_callI hX (by decide) [vI i, vI x, vI y] [] (tX1_unitGiven l D dA h q G sc k i hi hk x y hB hx hy) q260 q262 qs18 q26 q263 (show dsc (xR 1) yX1_unitGiven 3 by decide +kernel) (by decide) rfl (Nat.le_of_ble_eq_true rfl) dX1_marks_16 (fun r1 u1 hu1 => ?_)
        obtain ⟨hr1, rfl⟩ := hu1
        have hb := nV_b hB k (x := x) (y := y) (by omega) (by omega)
        have hc := cl_b hb
        have hiff : 0 < r1 ↔ 0 < nV (G 0) k x y := by rw [hr1]; unfold cl; split <;> omega
        refine x_if_le (tgt := 29) hX dX1_marks_19 (by decide) ⟨by omega, by omega⟩ (fun c2 => ?_) (fun c2 => ?_)
        · refine x_iinc (vs' := [.ref h, vI x, vI y, vI j, vI (i + 1)]) hX dX1_marks_29 rfl (by decide) rfl ?_
          refine x_goto (tgt := 5) hX dX1_marks_32 (by decide) ?_
          exact ih (k + 1) _ _ _ (by omega) (by omega) (by omega) (by first | rfl | exact hp) (by show _ = patN _ k + _; first | (rw [if_pos (by simp; omega), ← hpp]) | (rw [if_neg (by simp; omega), ← hpp, Nat.add_zero]))
        · refine x_iload_n hX dX1_marks_22 rfl ?_
          refine x_iconst hX dX1_marks_23 ?_
          refine x_iload hX dX1_marks_24 rfl ?_
          refine x_ishl hX dX1_marks_26 rfl ?_
          refine x_ior (v := iI ((p + 2 ^ k : Nat) : Int)) hX dX1_marks_27 (by rw [hp, hi]; exact iI_por (by omega) (by rw [hpp]; exact patN_lt _ k)) ?_
          refine x_istore_n (vs' := [.ref h, vI x, vI y, vI (((p + 2 ^ k : Nat) : Int)), vI i]) hX dX1_marks_28 ⟨Nat.le_of_ble_eq_true rfl, Nat.le_of_ble_eq_true rfl⟩ rfl ?_
          refine x_iinc (vs' := [.ref h, vI x, vI y, vI (((p + 2 ^ k : Nat) : Int)), vI (i + 1)]) hX dX1_marks_29 rfl (by decide) rfl ?_
          refine x_goto (tgt := 5) hX dX1_marks_32 (by decide) ?_
          exact ih (k + 1) _ _ _ (by omega) (by omega) (by omega) (by first | rfl | exact hp) (by show _ = patN _ k + _; first | (rw [if_pos (by simp; omega), ← hpp]) | (rw [if_neg (by simp; omega), ← hpp, Nat.add_zero]))
  refine x_iconst hX dX1_marks_0 ?_
  refine x_istore_n (vs' := [.ref h, vI x, vI y, vI 0]) hX dX1_marks_1 ⟨Nat.le_of_ble_eq_true rfl, Nat.le_of_ble_eq_true rfl⟩ rfl ?_
  refine x_iconst hX dX1_marks_2 ?_
  refine x_istore (vs' := [.ref h, vI x, vI y, vI 0, vI 0]) hX dX1_marks_3 ⟨Nat.le_of_ble_eq_true rfl, Nat.le_of_ble_eq_true rfl⟩ rfl ?_
  exact L 6 0 0 _ _ (by omega) (by omega) rfl rfl rfl
end
section
set_option maxRecDepth 100000
set_option maxHeartbeats 4000000 in
theorem tX1_above (l : Launch) (D : va_G) (dA : Bool → ClassId) (h : Nat) (q : Nat → Nat) (G : Nat → Nat → Int) (L R B T : Int) (lim : Int) (hlim : inR lim) (hB : NB (G 0)) (hL : -16 ≤ L ∧ L ≤ R ∧ R ≤ 15) (hT : -16 ≤ B ∧ B ≤ T ∧ T ≤ 15) : XM l yX1_above cX1_above 4 (some .int) 4 D dA (xw 1 dA h q) [.ref h, vI lim] (G, [L, R, B, T]) (fun r u => Fst (nV (G 0) 5) lim L R B T r ∧ u = (G, [L, R, B, T])) := by
  refine XM.of (by decide +kernel) (by simp [Value.category]) (Nat.le_of_ble_eq_true rfl) ?_
  intro X hX hret
  have hX : XOK l (xR 1) cX1_above 4 (rmL 4) D dA (xw 1 dA h q) X := hX
  have LI : ∀ x : Int, L ≤ x → x ≤ R → (∀ x' y' : Int, inBx L R B T x' y' → x' < x → nV (G 0) 5 x' y' ≤ lim) → ((∀ x' y' : Int, inBx L R B T x' y' → x' < x + 1 → nV (G 0) 5 x' y' ≤ lim) → ∀ y : Int, X (G, [L, R, B, T]) 55 [.ref h, vI lim, vI x, vI y] []) → ∀ (n : Nat) (y : Int), B ≤ y → y ≤ T + 1 → T + 2 ≤ y + (n : Int) → (∀ y' : Int, B ≤ y' → y' < y → nV (G 0) 5 x y' ≤ lim) → X (G, [L, R, B, T]) 18 [.ref h, vI lim, vI x, vI y] [] := by
    intro x hx1 hx2 hpre kk n
    induction n with
    | zero => intro y e1 e2 e3; exact absurd e3 (by omega)
    | succ n ih =>
      intro y e1 e2 e3 hy
      refine x_iload_n hX dX1_above_18 rfl ?_
      refine x_aload_n hX dX1_above_19 rfl ?_
      refine x_getS hX (by decide) 3 rfl (by decide) q203 dX1_above_20 ?_
      refine x_icmp_gt (tgt := 55) hX dX1_above_23 (by decide) ⟨by omega, by omega⟩ ⟨by omega, by omega⟩ (fun c1 => ?_) (fun c1 => ?_)
      · exact kk (fun x' y' g1 g2 => by by_cases e : x' = x; (subst e; exact hy y' g1.2.2.1 (by have := g1.2.2.2; omega)); exact hpre x' y' g1 (by omega)) y
      · refine x_aload_n hX dX1_above_26 rfl ?_
        refine x_iload_n hX dX1_above_27 rfl ?_
        refine x_iload_n hX dX1_above_28 rfl ?_
        refine x_callI hX (by decide) [vI x, vI y] [] (tX1_given l D dA h q G _ x y hB ⟨by omega, by omega⟩ ⟨by omega, by omega⟩) q240 q242 qs14 q26 q243 (show dsc (xR 1) yX1_given 2 by decide +kernel) (by decide) rfl (Nat.le_of_ble_eq_true rfl) dX1_above_29 (fun r1 u1 hu1 => ?_)
        obtain ⟨hr1, rfl⟩ := hu1
        have hvb := nV_b hB 5 (x := x) (y := y) (by omega) (by omega)
        refine x_iload_n hX dX1_above_32 rfl ?_
        refine x_icmp_le (tgt := 49) hX dX1_above_33 (by decide) ⟨by omega, by omega⟩ ⟨by omega, by omega⟩ (fun c2 => ?_) (fun c2 => ?_)
        · refine x_iinc (vs' := [.ref h, vI lim, vI x, vI (y + 1)]) hX dX1_above_49 rfl (by decide) rfl ?_
          refine x_goto (tgt := 18) hX dX1_above_52 (by decide) ?_
          exact ih (y + 1) (by omega) (by omega) (by omega) (fun y' g1 g2 => by by_cases e : y' = y; (subst e; omega); exact hy y' g1 (by omega))
        · refine x_bipush hX dX1_above_36 (by decide +kernel) ?_
          refine x_iload_n hX dX1_above_38 rfl ?_
          refine x_bipush hX dX1_above_39 (by decide +kernel) ?_
          refine x_iadd hX dX1_above_41 ?_
          refine x_imul hX dX1_above_42 ?_
          refine x_iload_n hX dX1_above_43 rfl ?_
          refine x_iadd hX dX1_above_44 ?_
          refine x_bipush hX dX1_above_45 (by decide +kernel) ?_
          refine x_iadd hX dX1_above_47 ?_
          exact hret _ _ _ _ dX1_above_48 ⟨Or.inr ⟨x, y, ⟨hx1, hx2, by omega, by omega⟩, by omega, fun x' y' g1 g2 => by rcases g2 with g2 | ⟨g2, g3⟩; exact hpre x' y' g1 g2; (subst g2; exact hy y' g1.2.2.1 g3), rfl⟩, rfl⟩
  have LO : ∀ (n : Nat) (x : Int), L ≤ x → x ≤ R + 1 → R + 2 ≤ x + (n : Int) → (∀ x' y' : Int, inBx L R B T x' y' → x' < x → nV (G 0) 5 x' y' ≤ lim) → X (G, [L, R, B, T]) 5 [.ref h, vI lim, vI x] [] := by
    intro n
    induction n with
    | zero => intro x e1 e2 e3; exact absurd e3 (by omega)
    | succ n ih =>
      intro x e1 e2 e3 hpre
      refine x_iload_n hX dX1_above_5 rfl ?_
      refine x_aload_n hX dX1_above_6 rfl ?_
      refine x_getS hX (by decide) 1 rfl (by decide) q201 dX1_above_7 ?_
      refine x_icmp_gt (tgt := 61) hX dX1_above_10 (by decide) ⟨by omega, by omega⟩ ⟨by omega, by omega⟩ (fun c1 => ?_) (fun c1 => ?_)
      · refine x_bipush hX dX1_above_61 (by decide +kernel) ?_
        exact hret _ _ _ _ dX1_above_63 ⟨Or.inl ⟨rfl, fun x' y' g => hpre x' y' g (by have := g.2.1; omega)⟩, rfl⟩
      · refine x_aload_n hX dX1_above_13 rfl ?_
        refine x_getS hX (by decide) 2 rfl (by decide) q202 dX1_above_14 ?_
        refine x_istore_n (vs' := [.ref h, vI lim, vI x, vI B]) hX dX1_above_17 ⟨Nat.le_of_ble_eq_true rfl, Nat.le_of_ble_eq_true rfl⟩ rfl ?_
        refine LI x e1 (by omega) hpre (fun hp2 y => ?_) (T + 2 - B).toNat B (by omega) (by omega) (by omega) (fun y' g1 g2 => absurd g2 (by omega))
        refine x_iinc (vs' := [.ref h, vI lim, vI (x + 1), vI y]) hX dX1_above_55 rfl (by decide) rfl ?_
        refine x_goto (tgt := 5) hX dX1_above_58 (by decide) ?_
        refine x_take hX 3 (vs' := [.ref h, vI lim, vI (x + 1)]) rfl ?_
        exact ih (x + 1) (by omega) (by omega) (by omega) hp2
  refine x_aload_n hX dX1_above_0 rfl ?_
  refine x_getS hX (by decide) 0 rfl (by decide) q200 dX1_above_1 ?_
  refine x_istore_n (vs' := [.ref h, vI lim, vI L]) hX dX1_above_4 ⟨Nat.le_of_ble_eq_true rfl, Nat.le_of_ble_eq_true rfl⟩ rfl ?_
  exact LO (R + 2 - L).toNat L (by omega) (by omega) (by omega) (fun x' y' g1 g2 => absurd g2 (by have := g1.1; omega))
set_option maxHeartbeats 4000000 in
theorem tX1_extreme (l : Launch) (D : va_G) (dA : Bool → ClassId) (h : Nat) (q : Nat → Nat) (G : Nat → Nat → Int) (L R B T : Int) (sg : Int) (hsg : sg = 1 ∨ sg = -1) (hB : NB (G 0)) (hL : -16 ≤ L ∧ L ≤ R ∧ R ≤ 15) (hT : -16 ≤ B ∧ B ≤ T ∧ T ≤ 15) : XM l yX1_extreme cX1_extreme 6 (some .int) 4 D dA (xw 1 dA h q) [.ref h, vI sg] (G, [L, R, B, T]) (fun r u => (∃ g : Int, Mx (fun x y => sg * nV (G 0) 5 x y) L R B T g ∧ r = sg * g) ∧ u = (G, [L, R, B, T])) := by
  refine XM.of (by decide +kernel) (by simp [Value.category]) (Nat.le_of_ble_eq_true rfl) ?_
  intro X hX hret
  have hX : XOK l (xR 1) cX1_extreme 6 (rmL 4) D dA (xw 1 dA h q) X := hX
  have LI : ∀ x : Int, L ≤ x → x ≤ R → (∀ best : Int, (-1000000 ≤ best ∧ best ≤ 32050) → (best = -1000000 ∨ ∃ x' y' : Int, inBx L R B T x' y' ∧ best = sg * nV (G 0) 5 x' y') → (∀ x' y' : Int, inBx L R B T x' y' → x' < x + 1 → sg * nV (G 0) 5 x' y' ≤ best) → ∀ y : Int, X (G, [L, R, B, T]) 57 [.ref h, vI sg, vI best, vI x, vI y] []) → ∀ (n : Nat) (y best : Int), B ≤ y → y ≤ T + 1 → T + 2 ≤ y + (n : Int) → (-1000000 ≤ best ∧ best ≤ 32050) → (best = -1000000 ∨ ∃ x' y' : Int, inBx L R B T x' y' ∧ best = sg * nV (G 0) 5 x' y') → (∀ x' y' : Int, inBx L R B T x' y' → x' < x → sg * nV (G 0) 5 x' y' ≤ best) → (∀ y' : Int, B ≤ y' → y' < y → sg * nV (G 0) 5 x y' ≤ best) → X (G, [L, R, B, T]) 22 [.ref h, vI sg, vI best, vI x, vI y] [] := by
    intro x hx1 hx2 kk n
    induction n with
    | zero => intro y best e1 e2 e3; exact absurd e3 (by omega)
    | succ n ih =>
      intro y best e1 e2 e3 b1 b2 hpre hy
      refine x_iload hX dX1_extreme_22 rfl ?_
      refine x_aload_n hX dX1_extreme_24 rfl ?_
      refine x_getS hX (by decide) 3 rfl (by decide) q203 dX1_extreme_25 ?_
      refine x_icmp_gt (tgt := 57) hX dX1_extreme_28 (by decide) ⟨by omega, by omega⟩ ⟨by omega, by omega⟩ (fun c1 => ?_) (fun c1 => ?_)
      · exact kk best b1 b2 (fun x' y' g1 g2 => by by_cases e : x' = x; (subst e; exact hy y' g1.2.2.1 (by have := g1.2.2.2; omega)); exact hpre x' y' g1 (by omega)) y
      · refine x_iload_n hX dX1_extreme_31 rfl ?_
        refine x_aload_n hX dX1_extreme_32 rfl ?_
        refine x_iload_n hX dX1_extreme_33 rfl ?_
        refine x_iload hX dX1_extreme_34 rfl ?_
        refine x_callI hX (by decide) [vI x, vI y] [vI sg] (tX1_given l D dA h q G _ x y hB ⟨by omega, by omega⟩ ⟨by omega, by omega⟩) q240 q242 qs14 q26 q243 (show dsc (xR 1) yX1_given 2 by decide +kernel) (by decide) rfl (Nat.le_of_ble_eq_true rfl) dX1_extreme_36 (fun r1 u1 hu1 => ?_)
        obtain ⟨hr1, rfl⟩ := hu1
        have hvb := nV_b hB 5 (x := x) (y := y) (by omega) (by omega)
        refine x_imul hX dX1_extreme_39 ?_
        refine x_top (fun y1 ey1 => ?_)
        refine x_istore (vs' := [.ref h, vI sg, vI best, vI x, vI y, vI y1]) hX dX1_extreme_40 ⟨Nat.le_of_ble_eq_true rfl, Nat.le_of_ble_eq_true rfl⟩ rfl ?_
        have hsv : -32050 ≤ sg * r1 ∧ sg * r1 ≤ 32050 := by rcases hsg with e | e <;> rw [e] <;> omega
        have hvv : y1 = sg * nV (G 0) 5 x y := by rw [ey1, hr1]
        refine x_iload hX dX1_extreme_42 rfl ?_
        refine x_iload_n hX dX1_extreme_44 rfl ?_
        refine x_icmp_le (tgt := 51) hX dX1_extreme_45 (by decide) ⟨by omega, by omega⟩ ⟨by omega, by omega⟩ (fun c2 => ?_) (fun c2 => ?_)
        · refine x_iinc (vs' := [.ref h, vI sg, vI best, vI x, vI (y + 1), vI y1]) hX dX1_extreme_51 rfl (by decide) rfl ?_
          refine x_goto (tgt := 22) hX dX1_extreme_54 (by decide) ?_
          refine x_take hX 5 (vs' := [.ref h, vI sg, vI best, vI x, vI (y + 1)]) rfl ?_
          exact ih (y + 1) _ (by omega) (by omega) (by omega) b1 b2 hpre (fun y' g1 g2 => by by_cases e : y' = y; (subst e; omega); exact hy y' g1 (by omega))
        · refine x_iload hX dX1_extreme_48 rfl ?_
          refine x_istore_n (vs' := [.ref h, vI sg, vI y1, vI x, vI y, vI y1]) hX dX1_extreme_50 ⟨Nat.le_of_ble_eq_true rfl, Nat.le_of_ble_eq_true rfl⟩ rfl ?_
          refine x_iinc (vs' := [.ref h, vI sg, vI y1, vI x, vI (y + 1), vI y1]) hX dX1_extreme_51 rfl (by decide) rfl ?_
          refine x_goto (tgt := 22) hX dX1_extreme_54 (by decide) ?_
          refine x_take hX 5 (vs' := [.ref h, vI sg, vI y1, vI x, vI (y + 1)]) rfl ?_
          exact ih (y + 1) _ (by omega) (by omega) (by omega) (by omega) (Or.inr ⟨x, y, ⟨hx1, hx2, by omega, by omega⟩, hvv⟩) (fun x' y' g1 g2 => by have := hpre x' y' g1 g2; omega) (fun y' g1 g2 => by by_cases e : y' = y; (subst e; omega); (have := hy y' g1 (by omega); omega))
  have LO : ∀ (n : Nat) (x best : Int), L ≤ x → x ≤ R + 1 → R + 2 ≤ x + (n : Int) → (-1000000 ≤ best ∧ best ≤ 32050) → (best = -1000000 ∨ ∃ x' y' : Int, inBx L R B T x' y' ∧ best = sg * nV (G 0) 5 x' y') → (∀ x' y' : Int, inBx L R B T x' y' → x' < x → sg * nV (G 0) 5 x' y' ≤ best) → X (G, [L, R, B, T]) 8 [.ref h, vI sg, vI best, vI x] [] := by
    intro n
    induction n with
    | zero => intro x best e1 e2 e3; exact absurd e3 (by omega)
    | succ n ih =>
      intro x best e1 e2 e3 b1 b2 hpre
      refine x_iload_n hX dX1_extreme_8 rfl ?_
      refine x_aload_n hX dX1_extreme_9 rfl ?_
      refine x_getS hX (by decide) 1 rfl (by decide) q201 dX1_extreme_10 ?_
      refine x_icmp_gt (tgt := 63) hX dX1_extreme_13 (by decide) ⟨by omega, by omega⟩ ⟨by omega, by omega⟩ (fun c1 => ?_) (fun c1 => ?_)
      · refine x_iload_n hX dX1_extreme_63 rfl ?_
        refine x_iload_n hX dX1_extreme_64 rfl ?_
        refine x_imul hX dX1_extreme_65 ?_
        have hp0 := hpre L B ⟨by omega, by omega, by omega, by omega⟩ (by omega)
        have hvb := nV_b hB 5 (x := L) (y := B) (by omega) (by omega)
        have hsv : -32050 ≤ sg * nV (G 0) 5 L B := by rcases hsg with e | e <;> rw [e] <;> omega
        exact hret _ _ _ _ dX1_extreme_66 ⟨⟨best, ⟨fun x' y' g => hpre x' y' g (by have := g.2.1; omega), by rcases b2 with e | e; omega; exact e⟩, rfl⟩, rfl⟩
      · refine x_aload_n hX dX1_extreme_16 rfl ?_
        refine x_getS hX (by decide) 2 rfl (by decide) q202 dX1_extreme_17 ?_
        refine x_istore (vs' := [.ref h, vI sg, vI best, vI x, vI B]) hX dX1_extreme_20 ⟨Nat.le_of_ble_eq_true rfl, Nat.le_of_ble_eq_true rfl⟩ rfl ?_
        refine LI x e1 (by omega) (fun best2 c1 c2 hp2 y => ?_) (T + 2 - B).toNat B best (by omega) (by omega) (by omega) b1 b2 hpre (fun y' g1 g2 => absurd g2 (by omega))
        refine x_iinc (vs' := [.ref h, vI sg, vI best2, vI (x + 1), vI y]) hX dX1_extreme_57 rfl (by decide) rfl ?_
        refine x_goto (tgt := 8) hX dX1_extreme_60 (by decide) ?_
        refine x_take hX 4 (vs' := [.ref h, vI sg, vI best2, vI (x + 1)]) rfl ?_
        exact ih (x + 1) best2 (by omega) (by omega) (by omega) c1 c2 hp2
  refine x_ldc (n := -1000000) hX q239 dX1_extreme_0 (by decide +kernel) ?_
  refine x_istore_n (vs' := [.ref h, vI sg, vI ((-1000000))]) hX dX1_extreme_2 ⟨Nat.le_of_ble_eq_true rfl, Nat.le_of_ble_eq_true rfl⟩ rfl ?_
  refine x_aload_n hX dX1_extreme_3 rfl ?_
  refine x_getS hX (by decide) 0 rfl (by decide) q200 dX1_extreme_4 ?_
  refine x_istore_n (vs' := [.ref h, vI sg, vI ((-1000000)), vI L]) hX dX1_extreme_7 ⟨Nat.le_of_ble_eq_true rfl, Nat.le_of_ble_eq_true rfl⟩ rfl ?_
  exact LO (R + 2 - L).toNat L _ (by omega) (by omega) (by omega) (by omega) (Or.inl rfl) (fun x' y' g1 g2 => absurd g2 (by have := g1.1; omega))
end
section
set_option maxRecDepth 100000
set_option maxHeartbeats 4000000 in
theorem tX1_get (l : Launch) (D : va_G) (dA : Bool → ClassId) (h : Nat) (q : Nat → Nat) (G : Nat → Nat → Int) (a1 a2 a3 a4 : Int) (pl : Int) (hpl : inR pl) : XM l yX1_get cX1_get 2 (some .int) 0 D dA (xw 1 dA h q) [.ref h, vI pl] (G, [a1, a2, a3, a4]) (fun r u => RGet (G 0) pl r ∧ u.1 0 = G 0 ∧ shp1 u.2) := by
  refine XM.of (by decide +kernel) (by simp [Value.category]) (Nat.le_of_ble_eq_true rfl) ?_
  intro X hX hret
  have hX : XOK l (xR 1) cX1_get 2 (rmL 0) D dA (xw 1 dA h q) X := hX
  refine x_iload_n hX dX1_get_0 rfl ?_
  refine x_if_lt (tgt := 10) hX dX1_get_1 (by decide) ⟨by omega, by omega⟩ (fun c1 => ?_) (fun c1 => ?_)
  · refine x_sipush hX dX1_get_10 (by decide +kernel) ?_
    refine x_goto (tgt := 22) hX dX1_get_13 (by decide) ?_
    exact hret _ _ _ _ dX1_get_22 ⟨by first | exact Or.inl ⟨by omega, rfl⟩ | exact Or.inr ⟨pl.toNat, by omega, by omega, rfl⟩, rfl, _, _, _, _, rfl⟩
  · refine x_iload_n hX dX1_get_4 rfl ?_
    refine x_bipush hX dX1_get_5 (by decide +kernel) ?_
    refine x_icmp_le (tgt := 16) hX dX1_get_7 (by decide) ⟨by omega, by omega⟩ ⟨by omega, by omega⟩ (fun c2 => ?_) (fun c2 => ?_)
    · refine x_aload_n hX dX1_get_16 rfl ?_
      refine x_getA hX (by decide) 0 (by decide) q199 dX1_get_17 ?_
      refine x_iload_n hX dX1_get_20 rfl ?_
      refine x_iald hX 0 pl.toNat (by decide) (by omega) (show _ < 20 by omega) rfl dX1_get_21 ?_
      exact hret _ _ _ _ dX1_get_22 ⟨by first | exact Or.inl ⟨by omega, rfl⟩ | exact Or.inr ⟨pl.toNat, by omega, by omega, rfl⟩, rfl, _, _, _, _, rfl⟩
    · refine x_sipush hX dX1_get_10 (by decide +kernel) ?_
      refine x_goto (tgt := 22) hX dX1_get_13 (by decide) ?_
      exact hret _ _ _ _ dX1_get_22 ⟨by first | exact Or.inl ⟨by omega, rfl⟩ | exact Or.inr ⟨pl.toNat, by omega, by omega, rfl⟩, rfl, _, _, _, _, rfl⟩
set_option maxHeartbeats 4000000 in
theorem tX1_set (l : Launch) (D : va_G) (dA : Bool → ClassId) (h : Nat) (q : Nat → Nat) (G : Nat → Nat → Int) (a1 a2 a3 a4 : Int) (pl v : Int) (hpl : inR pl) (hv : inR v) (hB : NB (G 0)) : XM l yX1_set cX1_set 5 (some .int) 1 D dA (xw 1 dA h q) [.ref h, vI pl, vI v] (G, [a1, a2, a3, a4]) (fun r u => RSet (G 0) pl v r (u.1 0) ∧ shp1 u.2) := by
  refine XM.of (by decide +kernel) (by simp [Value.category]) (Nat.le_of_ble_eq_true rfl) ?_
  intro X hX hret
  have hX : XOK l (xR 1) cX1_set 5 (rmL 1) D dA (xw 1 dA h q) X := hX
  refine x_iload_n hX dX1_set_0 rfl ?_
  refine x_if_lt (tgt := 10) hX dX1_set_1 (by decide) ⟨by omega, by omega⟩ (fun c1 => ?_) (fun c1 => ?_)
  · refine x_iconst hX dX1_set_10 ?_
    exact hret _ _ _ _ dX1_set_11 ⟨by first | exact Or.inl ⟨by omega, rfl, rfl⟩ | exact Or.inr ⟨pl.toNat, by omega, by omega, Or.inl ⟨by unfold isO; omega, rfl, rfl⟩⟩ | exact Or.inr ⟨pl.toNat, by omega, by omega, Or.inr ⟨by unfold isO; omega, by omega, by funext i; simp [gu]⟩⟩, _, _, _, _, rfl⟩
  · refine x_iload_n hX dX1_set_4 rfl ?_
    refine x_bipush hX dX1_set_5 (by decide +kernel) ?_
    refine x_icmp_le (tgt := 12) hX dX1_set_7 (by decide) ⟨by omega, by omega⟩ ⟨by omega, by omega⟩ (fun c2 => ?_) (fun c2 => ?_)
    · refine x_aload_n hX dX1_set_12 rfl ?_
      refine x_iload_n hX dX1_set_13 rfl ?_
      refine x_callI hX (by decide) [vI pl] [] (tX1_offset l D dA h q G _ pl ⟨by omega, by omega⟩) q219 q221 qs12 q26 q222 (show dsc (xR 1) yX1_offset 1 by decide +kernel) (by decide) rfl (Nat.le_of_ble_eq_true rfl) dX1_set_14 (fun r1 u1 hu1 => ?_)
      obtain ⟨hr1, rfl⟩ := hu1
      refine x_if_eq (tgt := 25) hX dX1_set_17 (by decide) ⟨by omega, by omega⟩ (fun c3 => ?_) (fun c3 => ?_)
      · refine x_iconst hX dX1_set_25 ?_
        refine x_istore_n (vs' := [.ref h, vI pl, vI v, vI 5]) hX dX1_set_26 ⟨Nat.le_of_ble_eq_true rfl, Nat.le_of_ble_eq_true rfl⟩ rfl ?_
        refine x_iload_n hX dX1_set_27 rfl ?_
        refine x_iload_n hX dX1_set_28 rfl ?_
        refine x_ineg hX dX1_set_29 ?_
        refine x_icmp_lt (tgt := 38) hX dX1_set_30 (by decide) ⟨by omega, by omega⟩ ⟨by omega, by omega⟩ (fun c4 => ?_) (fun c4 => ?_)
        · refine x_bipush hX dX1_set_38 (by decide +kernel) ?_
          exact hret _ _ _ _ dX1_set_40 ⟨by first | exact Or.inl ⟨by omega, rfl, rfl⟩ | exact Or.inr ⟨pl.toNat, by omega, by omega, Or.inl ⟨by unfold isO; omega, rfl, rfl⟩⟩ | exact Or.inr ⟨pl.toNat, by omega, by omega, Or.inr ⟨by unfold isO; omega, by omega, by funext i; simp [gu]⟩⟩, _, _, _, _, rfl⟩
        · refine x_iload_n hX dX1_set_33 rfl ?_
          refine x_iload_n hX dX1_set_34 rfl ?_
          refine x_icmp_le (tgt := 41) hX dX1_set_35 (by decide) ⟨by omega, by omega⟩ ⟨by omega, by omega⟩ (fun c5 => ?_) (fun c5 => ?_)
          · have hp := hB.o pl.toNat (by omega)
            refine x_aload_n hX dX1_set_41 rfl ?_
            refine x_getA hX (by decide) 0 (by decide) q199 dX1_set_42 ?_
            refine x_iload_n hX dX1_set_45 rfl ?_
            refine x_iald hX 0 pl.toNat (by decide) (by omega) (show _ < 20 by omega) rfl dX1_set_46 ?_
            refine x_iload_n hX dX1_set_47 rfl ?_
            refine x_icmp_ne (tgt := 55) hX dX1_set_48 (by decide) ⟨by omega, by omega⟩ ⟨by omega, by omega⟩ (fun c6 => ?_) (fun c6 => ?_)
            · refine x_iconst hX dX1_set_55 ?_
              refine x_istore (vs' := [.ref h, vI pl, vI v, vI 5, vI 1]) hX dX1_set_56 ⟨Nat.le_of_ble_eq_true rfl, Nat.le_of_ble_eq_true rfl⟩ rfl ?_
              refine x_aload_n hX dX1_set_58 rfl ?_
              refine x_getA hX (by decide) 0 (by decide) q199 dX1_set_59 ?_
              refine x_iload_n hX dX1_set_62 rfl ?_
              refine x_iload_n hX dX1_set_63 rfl ?_
              refine x_iast hX 0 pl.toNat (by decide) (by omega) (show _ < 20 by omega) dX1_set_64 ?_
              refine x_iload hX dX1_set_65 rfl ?_
              exact hret _ _ _ _ dX1_set_67 ⟨by first | exact Or.inl ⟨by omega, rfl, rfl⟩ | exact Or.inr ⟨pl.toNat, by omega, by omega, Or.inl ⟨by unfold isO; omega, rfl, rfl⟩⟩ | exact Or.inr ⟨pl.toNat, by omega, by omega, Or.inr ⟨by unfold isO; omega, by omega, by funext i; simp [gu]⟩⟩, _, _, _, _, rfl⟩
            · refine x_iconst hX dX1_set_51 ?_
              refine x_goto (tgt := 56) hX dX1_set_52 (by decide) ?_
              refine x_istore (vs' := [.ref h, vI pl, vI v, vI 5, vI 0]) hX dX1_set_56 ⟨Nat.le_of_ble_eq_true rfl, Nat.le_of_ble_eq_true rfl⟩ rfl ?_
              refine x_aload_n hX dX1_set_58 rfl ?_
              refine x_getA hX (by decide) 0 (by decide) q199 dX1_set_59 ?_
              refine x_iload_n hX dX1_set_62 rfl ?_
              refine x_iload_n hX dX1_set_63 rfl ?_
              refine x_iast hX 0 pl.toNat (by decide) (by omega) (show _ < 20 by omega) dX1_set_64 ?_
              refine x_iload hX dX1_set_65 rfl ?_
              exact hret _ _ _ _ dX1_set_67 ⟨by first | exact Or.inl ⟨by omega, rfl, rfl⟩ | exact Or.inr ⟨pl.toNat, by omega, by omega, Or.inl ⟨by unfold isO; omega, rfl, rfl⟩⟩ | exact Or.inr ⟨pl.toNat, by omega, by omega, Or.inr ⟨by unfold isO; omega, by omega, by funext i; simp [gu]⟩⟩, _, _, _, _, rfl⟩
          · refine x_bipush hX dX1_set_38 (by decide +kernel) ?_
            exact hret _ _ _ _ dX1_set_40 ⟨by first | exact Or.inl ⟨by omega, rfl, rfl⟩ | exact Or.inr ⟨pl.toNat, by omega, by omega, Or.inl ⟨by unfold isO; omega, rfl, rfl⟩⟩ | exact Or.inr ⟨pl.toNat, by omega, by omega, Or.inr ⟨by unfold isO; omega, by omega, by funext i; simp [gu]⟩⟩, _, _, _, _, rfl⟩
      · refine x_bipush hX dX1_set_20 (by decide +kernel) ?_
        refine x_goto (tgt := 26) hX dX1_set_22 (by decide) ?_
        refine x_istore_n (vs' := [.ref h, vI pl, vI v, vI 50]) hX dX1_set_26 ⟨Nat.le_of_ble_eq_true rfl, Nat.le_of_ble_eq_true rfl⟩ rfl ?_
        refine x_iload_n hX dX1_set_27 rfl ?_
        refine x_iload_n hX dX1_set_28 rfl ?_
        refine x_ineg hX dX1_set_29 ?_
        refine x_icmp_lt (tgt := 38) hX dX1_set_30 (by decide) ⟨by omega, by omega⟩ ⟨by omega, by omega⟩ (fun c7 => ?_) (fun c7 => ?_)
        · refine x_bipush hX dX1_set_38 (by decide +kernel) ?_
          exact hret _ _ _ _ dX1_set_40 ⟨by first | exact Or.inl ⟨by omega, rfl, rfl⟩ | exact Or.inr ⟨pl.toNat, by omega, by omega, Or.inl ⟨by unfold isO; omega, rfl, rfl⟩⟩ | exact Or.inr ⟨pl.toNat, by omega, by omega, Or.inr ⟨by unfold isO; omega, by omega, by funext i; simp [gu]⟩⟩, _, _, _, _, rfl⟩
        · refine x_iload_n hX dX1_set_33 rfl ?_
          refine x_iload_n hX dX1_set_34 rfl ?_
          refine x_icmp_le (tgt := 41) hX dX1_set_35 (by decide) ⟨by omega, by omega⟩ ⟨by omega, by omega⟩ (fun c8 => ?_) (fun c8 => ?_)
          · have hp := hB.o pl.toNat (by omega)
            refine x_aload_n hX dX1_set_41 rfl ?_
            refine x_getA hX (by decide) 0 (by decide) q199 dX1_set_42 ?_
            refine x_iload_n hX dX1_set_45 rfl ?_
            refine x_iald hX 0 pl.toNat (by decide) (by omega) (show _ < 20 by omega) rfl dX1_set_46 ?_
            refine x_iload_n hX dX1_set_47 rfl ?_
            refine x_icmp_ne (tgt := 55) hX dX1_set_48 (by decide) ⟨by omega, by omega⟩ ⟨by omega, by omega⟩ (fun c9 => ?_) (fun c9 => ?_)
            · refine x_iconst hX dX1_set_55 ?_
              refine x_istore (vs' := [.ref h, vI pl, vI v, vI 50, vI 1]) hX dX1_set_56 ⟨Nat.le_of_ble_eq_true rfl, Nat.le_of_ble_eq_true rfl⟩ rfl ?_
              refine x_aload_n hX dX1_set_58 rfl ?_
              refine x_getA hX (by decide) 0 (by decide) q199 dX1_set_59 ?_
              refine x_iload_n hX dX1_set_62 rfl ?_
              refine x_iload_n hX dX1_set_63 rfl ?_
              refine x_iast hX 0 pl.toNat (by decide) (by omega) (show _ < 20 by omega) dX1_set_64 ?_
              refine x_iload hX dX1_set_65 rfl ?_
              exact hret _ _ _ _ dX1_set_67 ⟨by first | exact Or.inl ⟨by omega, rfl, rfl⟩ | exact Or.inr ⟨pl.toNat, by omega, by omega, Or.inl ⟨by unfold isO; omega, rfl, rfl⟩⟩ | exact Or.inr ⟨pl.toNat, by omega, by omega, Or.inr ⟨by unfold isO; omega, by omega, by funext i; simp [gu]⟩⟩, _, _, _, _, rfl⟩
            · refine x_iconst hX dX1_set_51 ?_
              refine x_goto (tgt := 56) hX dX1_set_52 (by decide) ?_
              refine x_istore (vs' := [.ref h, vI pl, vI v, vI 50, vI 0]) hX dX1_set_56 ⟨Nat.le_of_ble_eq_true rfl, Nat.le_of_ble_eq_true rfl⟩ rfl ?_
              refine x_aload_n hX dX1_set_58 rfl ?_
              refine x_getA hX (by decide) 0 (by decide) q199 dX1_set_59 ?_
              refine x_iload_n hX dX1_set_62 rfl ?_
              refine x_iload_n hX dX1_set_63 rfl ?_
              refine x_iast hX 0 pl.toNat (by decide) (by omega) (show _ < 20 by omega) dX1_set_64 ?_
              refine x_iload hX dX1_set_65 rfl ?_
              exact hret _ _ _ _ dX1_set_67 ⟨by first | exact Or.inl ⟨by omega, rfl, rfl⟩ | exact Or.inr ⟨pl.toNat, by omega, by omega, Or.inl ⟨by unfold isO; omega, rfl, rfl⟩⟩ | exact Or.inr ⟨pl.toNat, by omega, by omega, Or.inr ⟨by unfold isO; omega, by omega, by funext i; simp [gu]⟩⟩, _, _, _, _, rfl⟩
          · refine x_bipush hX dX1_set_38 (by decide +kernel) ?_
            exact hret _ _ _ _ dX1_set_40 ⟨by first | exact Or.inl ⟨by omega, rfl, rfl⟩ | exact Or.inr ⟨pl.toNat, by omega, by omega, Or.inl ⟨by unfold isO; omega, rfl, rfl⟩⟩ | exact Or.inr ⟨pl.toNat, by omega, by omega, Or.inr ⟨by unfold isO; omega, by omega, by funext i; simp [gu]⟩⟩, _, _, _, _, rfl⟩
    · refine x_iconst hX dX1_set_10 ?_
      exact hret _ _ _ _ dX1_set_11 ⟨by first | exact Or.inl ⟨by omega, rfl, rfl⟩ | exact Or.inr ⟨pl.toNat, by omega, by omega, Or.inl ⟨by unfold isO; omega, rfl, rfl⟩⟩ | exact Or.inr ⟨pl.toNat, by omega, by omega, Or.inr ⟨by unfold isO; omega, by omega, by funext i; simp [gu]⟩⟩, _, _, _, _, rfl⟩
set_option maxHeartbeats 4000000 in
theorem tX1_sow (l : Launch) (D : va_G) (dA : Bool → ClassId) (h : Nat) (q : Nat → Nat) (G : Nat → Nat → Int) (a1 a2 a3 a4 : Int) (s b : Int) (hs : inR s) (hb : inR b) : XM l yX1_sow cX1_sow 4 (some .int) 1 D dA (xw 1 dA h q) [.ref h, vI s, vI b] (G, [a1, a2, a3, a4]) (fun r u => RSow (G 0) s b r (u.1 0) ∧ shp1 u.2) := by
  refine XM.of (by decide +kernel) (by simp [Value.category]) (Nat.le_of_ble_eq_true rfl) ?_
  intro X hX hret
  have hX : XOK l (xR 1) cX1_sow 4 (rmL 1) D dA (xw 1 dA h q) X := hX
  have L : 0 ≤ s → s ≤ 100 → 0 ≤ b → b ≤ 20 → ∀ (n p : Nat) (i : Int) (G' : Nat → Nat → Int), p ≤ 20 → 21 ≤ p + n → i = (p : Int) → (G' 0 = fun t => if t < p then sowV s b t else G 0 t) → X (G', [a1, a2, a3, a4]) 27 [.ref h, vI s, vI b, vI i] [] := by
    intro s0 s1 b0 b1 n
    induction n with
    | zero => intro p i G' e1 e2; exact absurd e2 (by omega)
    | succ n ih =>
      intro p i G' e1 e2 hi hG
      refine x_iload_n hX dX1_sow_27 rfl ?_
      refine x_bipush hX dX1_sow_28 (by decide +kernel) ?_
      refine x_icmp_ge (tgt := 90) hX dX1_sow_30 (by decide) ⟨by omega, by omega⟩ ⟨by omega, by omega⟩ (fun c1 => ?_) (fun c1 => ?_)
      · refine x_iconst hX dX1_sow_90 ?_
        have e9 : p = 20 := by omega
        subst e9
        exact hret _ _ _ _ dX1_sow_91 ⟨Or.inr (Or.inr ⟨by omega, by omega, rfl, hG⟩), _, _, _, _, rfl⟩
      · have hp : p < 20 := by omega
        have m1 : 0 ≤ b * i := Int.mul_nonneg (by omega) (by omega)
        have m2 := mulb (a := b) (b := i) (A := 20) (B := 20) (by omega) (by omega)
        have m3 : 0 ≤ i * i := Int.mul_nonneg (by omega) (by omega)
        have m4 := mulb (a := i) (b := i) (A := 20) (B := 20) (by omega) (by omega)
        have m5 : 0 ≤ i * i * b := Int.mul_nonneg m3 (by omega)
        have m6 := mulb (a := i * i) (b := b) (A := 400) (B := 20) (by omega) (by omega)
        refine x_aload_n hX dX1_sow_33 rfl ?_
        refine x_getA hX (by decide) 0 (by decide) q199 dX1_sow_34 ?_
        refine x_iload_n hX dX1_sow_37 rfl ?_
        refine x_aload_n hX dX1_sow_38 rfl ?_
        refine x_iload_n hX dX1_sow_39 rfl ?_
        refine x_callI hX (by decide) [vI i] [vI i, .ref (q 0)] (tX1_offset l D dA h q G' _ i ⟨by omega, by omega⟩) q219 q221 qs12 q26 q222 (show dsc (xR 1) yX1_offset 1 by decide +kernel) (by decide) rfl (Nat.le_of_ble_eq_true rfl) dX1_sow_40 (fun r1 u1 hu1 => ?_)
        obtain ⟨hr1, rfl⟩ := hu1
        refine x_if_eq (tgt := 67) hX dX1_sow_43 (by decide) ⟨by omega, by omega⟩ (fun c2 => ?_) (fun c2 => ?_)
        · refine x_iload_n hX dX1_sow_67 rfl ?_
          refine x_iconst hX dX1_sow_68 ?_
          refine x_iload_n hX dX1_sow_69 rfl ?_
          refine x_imul hX dX1_sow_70 ?_
          refine x_iadd hX dX1_sow_71 ?_
          refine x_iload_n hX dX1_sow_72 rfl ?_
          refine x_iload_n hX dX1_sow_73 rfl ?_
          refine x_imul hX dX1_sow_74 ?_
          refine x_iload_n hX dX1_sow_75 rfl ?_
          refine x_imul hX dX1_sow_76 ?_
          refine x_iadd hX dX1_sow_77 ?_
          refine x_bipush hX dX1_sow_78 (by decide +kernel) ?_
          refine x_irem (v := iI ((s + 3 * i + i * i * b) % 11)) hX dX1_sow_80 (by decide +kernel) (iI_rem (by omega) (by omega) (by decide) (by decide)) ?_
          refine x_iconst hX dX1_sow_81 ?_
          refine x_isub hX dX1_sow_82 ?_
          refine x_iast hX 0 p (by decide) (by omega) (show _ < 20 by omega) dX1_sow_83 ?_
          refine x_iinc (vs' := [.ref h, vI s, vI b, vI (i + 1)]) hX dX1_sow_84 rfl (by decide) rfl ?_
          refine x_goto (tgt := 27) hX dX1_sow_87 (by decide) ?_
          exact ih (p + 1) _ _ (by omega) (by omega) (by omega) (by
            funext t
            by_cases e : t = p
            · subst e
              rw [gu_s, if_pos (by omega)]
              unfold sowV
              first | rw [if_pos (by omega), hi] | rw [if_neg (by omega), hi]
            · rw [gu_n e, hG]
              dsimp only
              by_cases q9 : t < p
              · rw [if_pos q9, if_pos (by omega)]
              · rw [if_neg q9, if_neg (by omega)])
        · refine x_iload_n hX dX1_sow_46 rfl ?_
          refine x_bipush hX dX1_sow_47 (by decide +kernel) ?_
          refine x_imul hX dX1_sow_49 ?_
          refine x_iconst hX dX1_sow_50 ?_
          refine x_iload_n hX dX1_sow_51 rfl ?_
          refine x_imul hX dX1_sow_52 ?_
          refine x_iadd hX dX1_sow_53 ?_
          refine x_iload_n hX dX1_sow_54 rfl ?_
          refine x_iload_n hX dX1_sow_55 rfl ?_
          refine x_imul hX dX1_sow_56 ?_
          refine x_iadd hX dX1_sow_57 ?_
          refine x_bipush hX dX1_sow_58 (by decide +kernel) ?_
          refine x_irem (v := iI ((s * 7 + 5 * i + b * i) % 41)) hX dX1_sow_60 (by decide +kernel) (iI_rem (by omega) (by omega) (by decide) (by decide)) ?_
          refine x_bipush hX dX1_sow_61 (by decide +kernel) ?_
          refine x_isub hX dX1_sow_63 ?_
          refine x_goto (tgt := 83) hX dX1_sow_64 (by decide) ?_
          refine x_iast hX 0 p (by decide) (by omega) (show _ < 20 by omega) dX1_sow_83 ?_
          refine x_iinc (vs' := [.ref h, vI s, vI b, vI (i + 1)]) hX dX1_sow_84 rfl (by decide) rfl ?_
          refine x_goto (tgt := 27) hX dX1_sow_87 (by decide) ?_
          exact ih (p + 1) _ _ (by omega) (by omega) (by omega) (by
            funext t
            by_cases e : t = p
            · subst e
              rw [gu_s, if_pos (by omega)]
              unfold sowV
              first | rw [if_pos (by omega), hi] | rw [if_neg (by omega), hi]
            · rw [gu_n e, hG]
              dsimp only
              by_cases q9 : t < p
              · rw [if_pos q9, if_pos (by omega)]
              · rw [if_neg q9, if_neg (by omega)])
  refine x_iload_n hX dX1_sow_0 rfl ?_
  refine x_if_lt (tgt := 10) hX dX1_sow_1 (by decide) ⟨by omega, by omega⟩ (fun c1 => ?_) (fun c1 => ?_)
  · refine x_iconst hX dX1_sow_10 ?_
    exact hret _ _ _ _ dX1_sow_11 ⟨by first | exact Or.inl ⟨by omega, rfl, rfl⟩ | exact Or.inr (Or.inl ⟨by omega, by omega, rfl, rfl⟩), _, _, _, _, rfl⟩
  · refine x_iload_n hX dX1_sow_4 rfl ?_
    refine x_bipush hX dX1_sow_5 (by decide +kernel) ?_
    refine x_icmp_le (tgt := 12) hX dX1_sow_7 (by decide) ⟨by omega, by omega⟩ ⟨by omega, by omega⟩ (fun c2 => ?_) (fun c2 => ?_)
    · refine x_iload_n hX dX1_sow_12 rfl ?_
      refine x_if_lt (tgt := 22) hX dX1_sow_13 (by decide) ⟨by omega, by omega⟩ (fun c3 => ?_) (fun c3 => ?_)
      · refine x_bipush hX dX1_sow_22 (by decide +kernel) ?_
        exact hret _ _ _ _ dX1_sow_24 ⟨by first | exact Or.inl ⟨by omega, rfl, rfl⟩ | exact Or.inr (Or.inl ⟨by omega, by omega, rfl, rfl⟩), _, _, _, _, rfl⟩
      · refine x_iload_n hX dX1_sow_16 rfl ?_
        refine x_bipush hX dX1_sow_17 (by decide +kernel) ?_
        refine x_icmp_le (tgt := 25) hX dX1_sow_19 (by decide) ⟨by omega, by omega⟩ ⟨by omega, by omega⟩ (fun c4 => ?_) (fun c4 => ?_)
        · refine x_iconst hX dX1_sow_25 ?_
          refine x_istore_n (vs' := [.ref h, vI s, vI b, vI 0]) hX dX1_sow_26 ⟨Nat.le_of_ble_eq_true rfl, Nat.le_of_ble_eq_true rfl⟩ rfl ?_
          exact L (by omega) (by omega) (by omega) (by omega) 21 0 0 G (by omega) (by omega) rfl (by funext t; rw [if_neg (by omega)])
        · refine x_bipush hX dX1_sow_22 (by decide +kernel) ?_
          exact hret _ _ _ _ dX1_sow_24 ⟨by first | exact Or.inl ⟨by omega, rfl, rfl⟩ | exact Or.inr (Or.inl ⟨by omega, by omega, rfl, rfl⟩), _, _, _, _, rfl⟩
    · refine x_iconst hX dX1_sow_10 ?_
      exact hret _ _ _ _ dX1_sow_11 ⟨by first | exact Or.inl ⟨by omega, rfl, rfl⟩ | exact Or.inr (Or.inl ⟨by omega, by omega, rfl, rfl⟩), _, _, _, _, rfl⟩
set_option maxHeartbeats 4000000 in
theorem tX1_result (l : Launch) (D : va_G) (dA : Bool → ClassId) (h : Nat) (q : Nat → Nat) (G : Nat → Nat → Int) (a1 a2 a3 a4 : Int) (x0 x1 : Int) (h0 : inR x0) (h1 : inR x1) (hB : NB (G 0)) : XM l yX1_result cX1_result 3 (some .int) 4 D dA (xw 1 dA h q) [.ref h, vI x0, vI x1] (G, [a1, a2, a3, a4]) (fun r u => RRes (G 0) x0 x1 r ∧ u.1 0 = G 0 ∧ shp1 u.2) := by
  refine XM.of (by decide +kernel) (by simp [Value.category]) (Nat.le_of_ble_eq_true rfl) ?_
  intro X hX hret
  have hX : XOK l (xR 1) cX1_result 3 (rmL 4) D dA (xw 1 dA h q) X := hX
  refine x_aload_n hX dX1_result_0 rfl ?_
  refine x_iload_n hX dX1_result_1 rfl ?_
  refine x_callI hX (by decide) [vI x0] [] (tX1_bad l D dA h q G _ x0 ⟨by omega, by omega⟩) q235 q237 qs13 q26 q238 (show dsc (xR 1) yX1_bad 1 by decide +kernel) (by decide) rfl (Nat.le_of_ble_eq_true rfl) dX1_result_2 (fun r1 u1 hu1 => ?_)
  obtain ⟨hr1, rfl⟩ := hu1
  refine x_if_ne (tgt := 16) hX dX1_result_5 (by decide) ⟨by omega, by omega⟩ (fun c1 => ?_) (fun c1 => ?_)
  · refine x_ldc (n := -1000000) hX q239 dX1_result_16 (by decide +kernel) ?_
    refine x_goto (tgt := 27) hX dX1_result_18 (by decide) ?_
    exact hret _ _ _ _ dX1_result_27 (by first | exact ⟨Or.inl ⟨by omega, rfl⟩, rfl, _, _, _, _, rfl⟩ | exact ⟨Or.inr ⟨by omega, by omega, hr3⟩, rfl, _, _, _, _, rfl⟩)
  · refine x_aload_n hX dX1_result_8 rfl ?_
    refine x_iload_n hX dX1_result_9 rfl ?_
    refine x_callI hX (by decide) [vI x1] [] (tX1_bad l D dA h q G _ x1 ⟨by omega, by omega⟩) q235 q237 qs13 q26 q238 (show dsc (xR 1) yX1_bad 1 by decide +kernel) (by decide) rfl (Nat.le_of_ble_eq_true rfl) dX1_result_10 (fun r2 u2 hu2 => ?_)
    obtain ⟨hr2, rfl⟩ := hu2
    refine x_if_eq (tgt := 21) hX dX1_result_13 (by decide) ⟨by omega, by omega⟩ (fun c2 => ?_) (fun c2 => ?_)
    · refine x_aload_n hX dX1_result_21 rfl ?_
      refine x_iload_n hX dX1_result_22 rfl ?_
      refine x_iload_n hX dX1_result_23 rfl ?_
      refine x_callI hX (by decide) [vI x0, vI x1] [] (tX1_given l D dA h q G _ x0 x1 hB ⟨by omega, by omega⟩ ⟨by omega, by omega⟩) q240 q242 qs14 q26 q243 (show dsc (xR 1) yX1_given 2 by decide +kernel) (by decide) rfl (Nat.le_of_ble_eq_true rfl) dX1_result_24 (fun r3 u3 hu3 => ?_)
      obtain ⟨hr3, rfl⟩ := hu3
      exact hret _ _ _ _ dX1_result_27 (by first | exact ⟨Or.inl ⟨by omega, rfl⟩, rfl, _, _, _, _, rfl⟩ | exact ⟨Or.inr ⟨by omega, by omega, hr3⟩, rfl, _, _, _, _, rfl⟩)
    · refine x_ldc (n := -1000000) hX q239 dX1_result_16 (by decide +kernel) ?_
      refine x_goto (tgt := 27) hX dX1_result_18 (by decide) ?_
      exact hret _ _ _ _ dX1_result_27 (by first | exact ⟨Or.inl ⟨by omega, rfl⟩, rfl, _, _, _, _, rfl⟩ | exact ⟨Or.inr ⟨by omega, by omega, hr3⟩, rfl, _, _, _, _, rfl⟩)
set_option maxHeartbeats 4000000 in
theorem tX1_unit (l : Launch) (D : va_G) (dA : Bool → ClassId) (h : Nat) (q : Nat → Nat) (G : Nat → Nat → Int) (a1 a2 a3 a4 : Int) (t x0 x1 : Int) (ht : inR t) (h0 : inR x0) (h1 : inR x1) (hB : NB (G 0)) : XM l yX1_unit cX1_unit 4 (some .int) 4 D dA (xw 1 dA h q) [.ref h, vI t, vI x0, vI x1] (G, [a1, a2, a3, a4]) (fun r u => RUnit (G 0) t x0 x1 r ∧ u.1 0 = G 0 ∧ shp1 u.2) := by
  refine XM.of (by decide +kernel) (by simp [Value.category]) (Nat.le_of_ble_eq_true rfl) ?_
  intro X hX hret
  have hX : XOK l (xR 1) cX1_unit 4 (rmL 4) D dA (xw 1 dA h q) X := hX
  refine x_iload_n hX dX1_unit_0 rfl ?_
  refine x_if_lt (tgt := 9) hX dX1_unit_1 (by decide) ⟨by omega, by omega⟩ (fun c1 => ?_) (fun c1 => ?_)
  · refine x_iconst hX dX1_unit_9 ?_
    exact hret _ _ _ _ dX1_unit_10 (by first | exact ⟨Or.inl ⟨by omega, rfl⟩, rfl, _, _, _, _, rfl⟩ | exact ⟨Or.inr (Or.inl ⟨by omega, by omega, rfl⟩), rfl, _, _, _, _, rfl⟩ | exact ⟨Or.inr (Or.inr ⟨by omega, by omega, t.toNat, by omega, by omega, hr3⟩), rfl, _, _, _, _, rfl⟩)
  · refine x_iload_n hX dX1_unit_4 rfl ?_
    refine x_iconst hX dX1_unit_5 ?_
    refine x_icmp_le (tgt := 11) hX dX1_unit_6 (by decide) ⟨by omega, by omega⟩ ⟨by omega, by omega⟩ (fun c2 => ?_) (fun c2 => ?_)
    · refine x_aload_n hX dX1_unit_11 rfl ?_
      refine x_iload_n hX dX1_unit_12 rfl ?_
      refine x_callI hX (by decide) [vI x0] [] (tX1_bad l D dA h q G _ x0 ⟨by omega, by omega⟩) q235 q237 qs13 q26 q238 (show dsc (xR 1) yX1_bad 1 by decide +kernel) (by decide) rfl (Nat.le_of_ble_eq_true rfl) dX1_unit_13 (fun r1 u1 hu1 => ?_)
      obtain ⟨hr1, rfl⟩ := hu1
      refine x_if_ne (tgt := 27) hX dX1_unit_16 (by decide) ⟨by omega, by omega⟩ (fun c3 => ?_) (fun c3 => ?_)
      · refine x_bipush hX dX1_unit_27 (by decide +kernel) ?_
        refine x_goto (tgt := 39) hX dX1_unit_29 (by decide) ?_
        exact hret _ _ _ _ dX1_unit_39 (by first | exact ⟨Or.inl ⟨by omega, rfl⟩, rfl, _, _, _, _, rfl⟩ | exact ⟨Or.inr (Or.inl ⟨by omega, by omega, rfl⟩), rfl, _, _, _, _, rfl⟩ | exact ⟨Or.inr (Or.inr ⟨by omega, by omega, t.toNat, by omega, by omega, hr3⟩), rfl, _, _, _, _, rfl⟩)
      · refine x_aload_n hX dX1_unit_19 rfl ?_
        refine x_iload_n hX dX1_unit_20 rfl ?_
        refine x_callI hX (by decide) [vI x1] [] (tX1_bad l D dA h q G _ x1 ⟨by omega, by omega⟩) q235 q237 qs13 q26 q238 (show dsc (xR 1) yX1_bad 1 by decide +kernel) (by decide) rfl (Nat.le_of_ble_eq_true rfl) dX1_unit_21 (fun r2 u2 hu2 => ?_)
        obtain ⟨hr2, rfl⟩ := hu2
        refine x_if_eq (tgt := 32) hX dX1_unit_24 (by decide) ⟨by omega, by omega⟩ (fun c4 => ?_) (fun c4 => ?_)
        · refine x_aload_n hX dX1_unit_32 rfl ?_
          refine x_iload_n hX dX1_unit_33 rfl ?_
          refine x_iload_n hX dX1_unit_34 rfl ?_
          refine x_iload_n hX dX1_unit_35 rfl ?_
          refine x_callI hX (by decide) [vI t, vI x0, vI x1] [] (tX1_unitGiven l D dA h q G _ t.toNat t (by omega) (by omega) x0 x1 hB ⟨by omega, by omega⟩ ⟨by omega, by omega⟩) q260 q262 qs18 q26 q263 (show dsc (xR 1) yX1_unitGiven 3 by decide +kernel) (by decide) rfl (Nat.le_of_ble_eq_true rfl) dX1_unit_36 (fun r3 u3 hu3 => ?_)
          obtain ⟨hr3, rfl⟩ := hu3
          exact hret _ _ _ _ dX1_unit_39 (by first | exact ⟨Or.inl ⟨by omega, rfl⟩, rfl, _, _, _, _, rfl⟩ | exact ⟨Or.inr (Or.inl ⟨by omega, by omega, rfl⟩), rfl, _, _, _, _, rfl⟩ | exact ⟨Or.inr (Or.inr ⟨by omega, by omega, t.toNat, by omega, by omega, hr3⟩), rfl, _, _, _, _, rfl⟩)
        · refine x_bipush hX dX1_unit_27 (by decide +kernel) ?_
          refine x_goto (tgt := 39) hX dX1_unit_29 (by decide) ?_
          exact hret _ _ _ _ dX1_unit_39 (by first | exact ⟨Or.inl ⟨by omega, rfl⟩, rfl, _, _, _, _, rfl⟩ | exact ⟨Or.inr (Or.inl ⟨by omega, by omega, rfl⟩), rfl, _, _, _, _, rfl⟩ | exact ⟨Or.inr (Or.inr ⟨by omega, by omega, t.toNat, by omega, by omega, hr3⟩), rfl, _, _, _, _, rfl⟩)
    · refine x_iconst hX dX1_unit_9 ?_
      exact hret _ _ _ _ dX1_unit_10 (by first | exact ⟨Or.inl ⟨by omega, rfl⟩, rfl, _, _, _, _, rfl⟩ | exact ⟨Or.inr (Or.inl ⟨by omega, by omega, rfl⟩), rfl, _, _, _, _, rfl⟩ | exact ⟨Or.inr (Or.inr ⟨by omega, by omega, t.toNat, by omega, by omega, hr3⟩), rfl, _, _, _, _, rfl⟩)
set_option maxHeartbeats 4000000 in
theorem tX1_most (l : Launch) (D : va_G) (dA : Bool → ClassId) (h : Nat) (q : Nat → Nat) (G : Nat → Nat → Int) (a1 a2 a3 a4 : Int) (f s : Int) (hf0 : inR f) (hs0 : inR s) (hB : NB (G 0)) : XM l yX1_most cX1_most 3 (some .int) 5 D dA (xw 1 dA h q) [.ref h, vI f, vI s] (G, [a1, a2, a3, a4]) (fun r u => RBox (QMost (G 0)) (-1000000) f s r ∧ u.1 0 = G 0 ∧ shp1 u.2) := by
  refine XM.of (by decide +kernel) (by simp [Value.category]) (Nat.le_of_ble_eq_true rfl) ?_
  intro X hX hret
  have hX : XOK l (xR 1) cX1_most 3 (rmL 5) D dA (xw 1 dA h q) X := hX
  refine x_aload_n hX dX1_most_0 rfl ?_
  refine x_iload_n hX dX1_most_1 rfl ?_
  refine x_iload_n hX dX1_most_2 rfl ?_
  refine x_callI hX (by decide) [vI f, vI s] [] (tX1_take l D dA h q G a1 a2 a3 a4 f s ⟨by omega, by omega⟩ ⟨by omega, by omega⟩) q268 q270 qs19 q26 q271 (show dsc (xR 1) yX1_take 2 by decide +kernel) (by decide) rfl (Nat.le_of_ble_eq_true rfl) dX1_most_3 (fun rt ut hut => ?_)
  rcases hut with ⟨ht1, hf, hs9, rfl⟩ | ⟨ht1, hno, rfl⟩
  · subst ht1
    obtain ⟨f1, f2, f3⟩ := id hf
    obtain ⟨g1, g2, g3⟩ := id hs9
    refine x_if_eq (tgt := 17) hX dX1_most_6 (by decide) ⟨by omega, by omega⟩ (fun c1 => absurd c1 (by omega)) (fun c1 => ?_)
    refine x_aload_n hX dX1_most_9 rfl ?_
    refine x_iconst hX dX1_most_10 ?_
    refine x_callI hX (by decide) [vI 1] [] (tX1_extreme l D dA h q G _ _ _ _ 1 (by omega) hB ⟨by omega, by omega, by omega⟩ ⟨by omega, by omega, by omega⟩) q276 q278 qs21 q26 q279 (show dsc (xR 1) yX1_extreme 1 by decide +kernel) (by decide) rfl (Nat.le_of_ble_eq_true rfl) dX1_most_11 (fun r1 u1 hu1 => ?_)
    obtain ⟨hr1, rfl⟩ := hu1
    refine x_goto (tgt := 19) hX dX1_most_14 (by decide) ?_
    exact hret _ _ _ _ dX1_most_19 (by first | exact ⟨Or.inl ⟨hno, rfl⟩, rfl, _, _, _, _, rfl⟩ | exact ⟨Or.inr ⟨hf, hs9, by obtain ⟨g, hg, hgr⟩ := hr1; exact ⟨fun x y hx => by have := hg.1 x y hx; dsimp only at this; omega, by obtain ⟨x, y, e1, e2⟩ := hg.2; dsimp only at e2; exact ⟨x, y, e1, by omega⟩⟩⟩, rfl, _, _, _, _, rfl⟩)
  · subst ht1
    refine x_if_eq (tgt := 17) hX dX1_most_6 (by decide) ⟨by omega, by omega⟩ (fun c2 => ?_) (fun c2 => absurd c2 (by omega))
    refine x_ldc (n := -1000000) hX q239 dX1_most_17 (by decide +kernel) ?_
    exact hret _ _ _ _ dX1_most_19 (by first | exact ⟨Or.inl ⟨hno, rfl⟩, rfl, _, _, _, _, rfl⟩ | exact ⟨Or.inr ⟨hf, hs9, by obtain ⟨g, hg, hgr⟩ := hr1; exact ⟨fun x y hx => by have := hg.1 x y hx; dsimp only at this; omega, by obtain ⟨x, y, e1, e2⟩ := hg.2; dsimp only at e2; exact ⟨x, y, e1, by omega⟩⟩⟩, rfl, _, _, _, _, rfl⟩)
set_option maxHeartbeats 4000000 in
theorem tX1_least (l : Launch) (D : va_G) (dA : Bool → ClassId) (h : Nat) (q : Nat → Nat) (G : Nat → Nat → Int) (a1 a2 a3 a4 : Int) (f s : Int) (hf0 : inR f) (hs0 : inR s) (hB : NB (G 0)) : XM l yX1_least cX1_least 3 (some .int) 5 D dA (xw 1 dA h q) [.ref h, vI f, vI s] (G, [a1, a2, a3, a4]) (fun r u => RBox (QLeast (G 0)) (-1000000) f s r ∧ u.1 0 = G 0 ∧ shp1 u.2) := by
  refine XM.of (by decide +kernel) (by simp [Value.category]) (Nat.le_of_ble_eq_true rfl) ?_
  intro X hX hret
  have hX : XOK l (xR 1) cX1_least 3 (rmL 5) D dA (xw 1 dA h q) X := hX
  refine x_aload_n hX dX1_least_0 rfl ?_
  refine x_iload_n hX dX1_least_1 rfl ?_
  refine x_iload_n hX dX1_least_2 rfl ?_
  refine x_callI hX (by decide) [vI f, vI s] [] (tX1_take l D dA h q G a1 a2 a3 a4 f s ⟨by omega, by omega⟩ ⟨by omega, by omega⟩) q268 q270 qs19 q26 q271 (show dsc (xR 1) yX1_take 2 by decide +kernel) (by decide) rfl (Nat.le_of_ble_eq_true rfl) dX1_least_3 (fun rt ut hut => ?_)
  rcases hut with ⟨ht1, hf, hs9, rfl⟩ | ⟨ht1, hno, rfl⟩
  · subst ht1
    obtain ⟨f1, f2, f3⟩ := id hf
    obtain ⟨g1, g2, g3⟩ := id hs9
    refine x_if_eq (tgt := 17) hX dX1_least_6 (by decide) ⟨by omega, by omega⟩ (fun c1 => absurd c1 (by omega)) (fun c1 => ?_)
    refine x_aload_n hX dX1_least_9 rfl ?_
    refine x_iconst hX dX1_least_10 ?_
    refine x_callI hX (by decide) [vI ((-1))] [] (tX1_extreme l D dA h q G _ _ _ _ (-1) (by omega) hB ⟨by omega, by omega, by omega⟩ ⟨by omega, by omega, by omega⟩) q276 q278 qs21 q26 q279 (show dsc (xR 1) yX1_extreme 1 by decide +kernel) (by decide) rfl (Nat.le_of_ble_eq_true rfl) dX1_least_11 (fun r1 u1 hu1 => ?_)
    obtain ⟨hr1, rfl⟩ := hu1
    refine x_goto (tgt := 19) hX dX1_least_14 (by decide) ?_
    exact hret _ _ _ _ dX1_least_19 (by first | exact ⟨Or.inl ⟨hno, rfl⟩, rfl, _, _, _, _, rfl⟩ | exact ⟨Or.inr ⟨hf, hs9, by obtain ⟨g, hg, hgr⟩ := hr1; exact ⟨fun x y hx => by have := hg.1 x y hx; dsimp only at this; omega, by obtain ⟨x, y, e1, e2⟩ := hg.2; dsimp only at e2; exact ⟨x, y, e1, by omega⟩⟩⟩, rfl, _, _, _, _, rfl⟩)
  · subst ht1
    refine x_if_eq (tgt := 17) hX dX1_least_6 (by decide) ⟨by omega, by omega⟩ (fun c2 => ?_) (fun c2 => absurd c2 (by omega))
    refine x_ldc (n := -1000000) hX q239 dX1_least_17 (by decide +kernel) ?_
    exact hret _ _ _ _ dX1_least_19 (by first | exact ⟨Or.inl ⟨hno, rfl⟩, rfl, _, _, _, _, rfl⟩ | exact ⟨Or.inr ⟨hf, hs9, by obtain ⟨g, hg, hgr⟩ := hr1; exact ⟨fun x y hx => by have := hg.1 x y hx; dsimp only at this; omega, by obtain ⟨x, y, e1, e2⟩ := hg.2; dsimp only at e2; exact ⟨x, y, e1, by omega⟩⟩⟩, rfl, _, _, _, _, rfl⟩)
set_option maxHeartbeats 4000000 in
theorem tX1_mostAt (l : Launch) (D : va_G) (dA : Bool → ClassId) (h : Nat) (q : Nat → Nat) (G : Nat → Nat → Int) (a1 a2 a3 a4 : Int) (f s : Int) (hf0 : inR f) (hs0 : inR s) (hB : NB (G 0)) : XM l yX1_mostAt cX1_mostAt 4 (some .int) 5 D dA (xw 1 dA h q) [.ref h, vI f, vI s] (G, [a1, a2, a3, a4]) (fun r u => RBox (QMostAt (G 0)) (-1) f s r ∧ u.1 0 = G 0 ∧ shp1 u.2) := by
  refine XM.of (by decide +kernel) (by simp [Value.category]) (Nat.le_of_ble_eq_true rfl) ?_
  intro X hX hret
  have hX : XOK l (xR 1) cX1_mostAt 4 (rmL 5) D dA (xw 1 dA h q) X := hX
  refine x_aload_n hX dX1_mostAt_0 rfl ?_
  refine x_iload_n hX dX1_mostAt_1 rfl ?_
  refine x_iload_n hX dX1_mostAt_2 rfl ?_
  refine x_callI hX (by decide) [vI f, vI s] [] (tX1_take l D dA h q G a1 a2 a3 a4 f s ⟨by omega, by omega⟩ ⟨by omega, by omega⟩) q268 q270 qs19 q26 q271 (show dsc (xR 1) yX1_take 2 by decide +kernel) (by decide) rfl (Nat.le_of_ble_eq_true rfl) dX1_mostAt_3 (fun rt ut hut => ?_)
  rcases hut with ⟨ht1, hf, hs9, rfl⟩ | ⟨ht1, hno, rfl⟩
  · subst ht1
    obtain ⟨f1, f2, f3⟩ := id hf
    obtain ⟨g1, g2, g3⟩ := id hs9
    refine x_if_ne (tgt := 11) hX dX1_mostAt_6 (by decide) ⟨by omega, by omega⟩ (fun c1 => ?_) (fun c1 => absurd c1 (by omega))
    refine x_aload_n hX dX1_mostAt_11 rfl ?_
    refine x_iconst hX dX1_mostAt_12 ?_
    refine x_callI hX (by decide) [vI 1] [] (tX1_extreme l D dA h q G _ _ _ _ 1 (by omega) hB ⟨by omega, by omega, by omega⟩ ⟨by omega, by omega, by omega⟩) q276 q278 qs21 q26 q279 (show dsc (xR 1) yX1_extreme 1 by decide +kernel) (by decide) rfl (Nat.le_of_ble_eq_true rfl) dX1_mostAt_13 (fun r1 u1 hu1 => ?_)
    obtain ⟨hr1, rfl⟩ := hu1
    obtain ⟨g, hg, hgr⟩ := hr1
    have rb : -32050 ≤ g ∧ g ≤ 32050 := by
      obtain ⟨-, x, y, e1, e2⟩ := hg
      dsimp only at e2
      unfold inBx at e1
      have := nV_b hB 5 (x := x) (y := y) (by omega) (by omega)
      omega
    refine x_istore_n (vs' := [.ref h, vI f, vI s, vI r1]) hX dX1_mostAt_16 ⟨Nat.le_of_ble_eq_true rfl, Nat.le_of_ble_eq_true rfl⟩ rfl ?_
    refine x_aload_n hX dX1_mostAt_17 rfl ?_
    refine x_iload_n hX dX1_mostAt_18 rfl ?_
    refine x_iconst hX dX1_mostAt_19 ?_
    refine x_isub hX dX1_mostAt_20 ?_
    refine x_callI hX (by decide) [vI (r1 - 1)] [] (tX1_above l D dA h q G _ _ _ _ (r1 - 1) ⟨by omega, by omega⟩ hB ⟨by omega, by omega, by omega⟩ ⟨by omega, by omega, by omega⟩) q288 q290 qs22 q26 q291 (show dsc (xR 1) yX1_above 1 by decide +kernel) (by decide) rfl (Nat.le_of_ble_eq_true rfl) dX1_mostAt_21 (fun r2 u2 hu2 => ?_)
    obtain ⟨hr2, rfl⟩ := hu2
    exact hret _ _ _ _ dX1_mostAt_24 (by first | exact ⟨Or.inl ⟨hno, rfl⟩, rfl, _, _, _, _, rfl⟩ | exact ⟨Or.inr ⟨hf, hs9, r1, ⟨fun x y hx => by have := hg.1 x y hx; dsimp only at this; omega, by obtain ⟨x, y, e1, e2⟩ := hg.2; dsimp only at e2; exact ⟨x, y, e1, by omega⟩⟩, hr2⟩, rfl, _, _, _, _, rfl⟩)
  · subst ht1
    refine x_if_ne (tgt := 11) hX dX1_mostAt_6 (by decide) ⟨by omega, by omega⟩ (fun c2 => absurd c2 (by omega)) (fun c2 => ?_)
    refine x_iconst hX dX1_mostAt_9 ?_
    exact hret _ _ _ _ dX1_mostAt_10 (by first | exact ⟨Or.inl ⟨hno, rfl⟩, rfl, _, _, _, _, rfl⟩ | exact ⟨Or.inr ⟨hf, hs9, r1, ⟨fun x y hx => by have := hg.1 x y hx; dsimp only at this; omega, by obtain ⟨x, y, e1, e2⟩ := hg.2; dsimp only at e2; exact ⟨x, y, e1, by omega⟩⟩, hr2⟩, rfl, _, _, _, _, rfl⟩)
set_option maxHeartbeats 4000000 in
theorem tX1_safe (l : Launch) (D : va_G) (dA : Bool → ClassId) (h : Nat) (q : Nat → Nat) (G : Nat → Nat → Int) (a1 a2 a3 a4 : Int) (f s lim : Int) (hf0 : inR f) (hs0 : inR s) (hlim : inR lim) (hB : NB (G 0)) : XM l yX1_safe cX1_safe 4 (some .int) 5 D dA (xw 1 dA h q) [.ref h, vI f, vI s, vI lim] (G, [a1, a2, a3, a4]) (fun r u => RBox (QSafe (G 0) lim) (-1) f s r ∧ u.1 0 = G 0 ∧ shp1 u.2) := by
  refine XM.of (by decide +kernel) (by simp [Value.category]) (Nat.le_of_ble_eq_true rfl) ?_
  intro X hX hret
  have hX : XOK l (xR 1) cX1_safe 4 (rmL 5) D dA (xw 1 dA h q) X := hX
  refine x_aload_n hX dX1_safe_0 rfl ?_
  refine x_iload_n hX dX1_safe_1 rfl ?_
  refine x_iload_n hX dX1_safe_2 rfl ?_
  refine x_callI hX (by decide) [vI f, vI s] [] (tX1_take l D dA h q G a1 a2 a3 a4 f s ⟨by omega, by omega⟩ ⟨by omega, by omega⟩) q268 q270 qs19 q26 q271 (show dsc (xR 1) yX1_take 2 by decide +kernel) (by decide) rfl (Nat.le_of_ble_eq_true rfl) dX1_safe_3 (fun rt ut hut => ?_)
  rcases hut with ⟨ht1, hf, hs9, rfl⟩ | ⟨ht1, hno, rfl⟩
  · subst ht1
    obtain ⟨f1, f2, f3⟩ := id hf
    obtain ⟨g1, g2, g3⟩ := id hs9
    refine x_if_ne (tgt := 11) hX dX1_safe_6 (by decide) ⟨by omega, by omega⟩ (fun c1 => ?_) (fun c1 => absurd c1 (by omega))
    refine x_aload_n hX dX1_safe_11 rfl ?_
    refine x_iload_n hX dX1_safe_12 rfl ?_
    refine x_callI hX (by decide) [vI lim] [] (tX1_above l D dA h q G _ _ _ _ lim ⟨by omega, by omega⟩ hB ⟨by omega, by omega, by omega⟩ ⟨by omega, by omega, by omega⟩) q288 q290 qs22 q26 q291 (show dsc (xR 1) yX1_above 1 by decide +kernel) (by decide) rfl (Nat.le_of_ble_eq_true rfl) dX1_safe_13 (fun r2 u2 hu2 => ?_)
    obtain ⟨hr2, rfl⟩ := hu2
    have rb : -2 ≤ r2 ∧ r2 ≤ 1023 := by
      rcases hr2 with ⟨e, -⟩ | ⟨x, y, e1, -, -, e2⟩
      · omega
      · unfold inBx at e1
        omega
    refine x_if_ge (tgt := 23) hX dX1_safe_16 (by decide) ⟨by omega, by omega⟩ (fun c2 => ?_) (fun c2 => ?_)
    · refine x_iconst hX dX1_safe_23 ?_
      exact hret _ _ _ _ dX1_safe_24 (by first | exact ⟨Or.inl ⟨hno, rfl⟩, rfl, _, _, _, _, rfl⟩ | exact ⟨Or.inr ⟨hf, hs9, by first | exact Or.inl ⟨rfl, by rcases hr2 with e | ⟨x, y, e1, -, -, e2⟩; exact Or.inl ⟨rfl, e.2⟩; (unfold inBx at e1; omega)⟩ | exact Or.inr ⟨rfl, r2, by omega, hr2⟩⟩, rfl, _, _, _, _, rfl⟩)
    · refine x_iconst hX dX1_safe_19 ?_
      refine x_goto (tgt := 24) hX dX1_safe_20 (by decide) ?_
      exact hret _ _ _ _ dX1_safe_24 (by first | exact ⟨Or.inl ⟨hno, rfl⟩, rfl, _, _, _, _, rfl⟩ | exact ⟨Or.inr ⟨hf, hs9, by first | exact Or.inl ⟨rfl, by rcases hr2 with e | ⟨x, y, e1, -, -, e2⟩; exact Or.inl ⟨rfl, e.2⟩; (unfold inBx at e1; omega)⟩ | exact Or.inr ⟨rfl, r2, by omega, hr2⟩⟩, rfl, _, _, _, _, rfl⟩)
  · subst ht1
    refine x_if_ne (tgt := 11) hX dX1_safe_6 (by decide) ⟨by omega, by omega⟩ (fun c3 => absurd c3 (by omega)) (fun c3 => ?_)
    refine x_iconst hX dX1_safe_9 ?_
    exact hret _ _ _ _ dX1_safe_10 (by first | exact ⟨Or.inl ⟨hno, rfl⟩, rfl, _, _, _, _, rfl⟩ | exact ⟨Or.inr ⟨hf, hs9, by first | exact Or.inl ⟨rfl, by rcases hr2 with e | ⟨x, y, e1, -, -, e2⟩; exact Or.inl ⟨rfl, e.2⟩; (unfold inBx at e1; omega)⟩ | exact Or.inr ⟨rfl, r2, by omega, hr2⟩⟩, rfl, _, _, _, _, rfl⟩)
set_option maxHeartbeats 4000000 in
theorem tX1_breach (l : Launch) (D : va_G) (dA : Bool → ClassId) (h : Nat) (q : Nat → Nat) (G : Nat → Nat → Int) (a1 a2 a3 a4 : Int) (f s lim : Int) (hf0 : inR f) (hs0 : inR s) (hlim : inR lim) (hB : NB (G 0)) : XM l yX1_breach cX1_breach 4 (some .int) 5 D dA (xw 1 dA h q) [.ref h, vI f, vI s, vI lim] (G, [a1, a2, a3, a4]) (fun r u => RBox (QBreach (G 0) lim) (-1) f s r ∧ u.1 0 = G 0 ∧ shp1 u.2) := by
  refine XM.of (by decide +kernel) (by simp [Value.category]) (Nat.le_of_ble_eq_true rfl) ?_
  intro X hX hret
  have hX : XOK l (xR 1) cX1_breach 4 (rmL 5) D dA (xw 1 dA h q) X := hX
  refine x_aload_n hX dX1_breach_0 rfl ?_
  refine x_iload_n hX dX1_breach_1 rfl ?_
  refine x_iload_n hX dX1_breach_2 rfl ?_
  refine x_callI hX (by decide) [vI f, vI s] [] (tX1_take l D dA h q G a1 a2 a3 a4 f s ⟨by omega, by omega⟩ ⟨by omega, by omega⟩) q268 q270 qs19 q26 q271 (show dsc (xR 1) yX1_take 2 by decide +kernel) (by decide) rfl (Nat.le_of_ble_eq_true rfl) dX1_breach_3 (fun rt ut hut => ?_)
  rcases hut with ⟨ht1, hf, hs9, rfl⟩ | ⟨ht1, hno, rfl⟩
  · subst ht1
    obtain ⟨f1, f2, f3⟩ := id hf
    obtain ⟨g1, g2, g3⟩ := id hs9
    refine x_if_eq (tgt := 17) hX dX1_breach_6 (by decide) ⟨by omega, by omega⟩ (fun c1 => absurd c1 (by omega)) (fun c1 => ?_)
    refine x_aload_n hX dX1_breach_9 rfl ?_
    refine x_iload_n hX dX1_breach_10 rfl ?_
    refine x_callI hX (by decide) [vI lim] [] (tX1_above l D dA h q G _ _ _ _ lim ⟨by omega, by omega⟩ hB ⟨by omega, by omega, by omega⟩ ⟨by omega, by omega, by omega⟩) q288 q290 qs22 q26 q291 (show dsc (xR 1) yX1_above 1 by decide +kernel) (by decide) rfl (Nat.le_of_ble_eq_true rfl) dX1_breach_11 (fun r2 u2 hu2 => ?_)
    obtain ⟨hr2, rfl⟩ := hu2
    refine x_goto (tgt := 18) hX dX1_breach_14 (by decide) ?_
    exact hret _ _ _ _ dX1_breach_18 (by first | exact ⟨Or.inl ⟨hno, rfl⟩, rfl, _, _, _, _, rfl⟩ | exact ⟨Or.inr ⟨hf, hs9, hr2⟩, rfl, _, _, _, _, rfl⟩)
  · subst ht1
    refine x_if_eq (tgt := 17) hX dX1_breach_6 (by decide) ⟨by omega, by omega⟩ (fun c2 => ?_) (fun c2 => absurd c2 (by omega))
    refine x_iconst hX dX1_breach_17 ?_
    exact hret _ _ _ _ dX1_breach_18 (by first | exact ⟨Or.inl ⟨hno, rfl⟩, rfl, _, _, _, _, rfl⟩ | exact ⟨Or.inr ⟨hf, hs9, hr2⟩, rfl, _, _, _, _, rfl⟩)
end
section
set_option maxRecDepth 100000
theorem bef_y {L R B T x y x' y' : Int} (_ : inBx L R B T x' y') (h : bef x' y' x (y + 1)) : bef x' y' x y ∨ (x' = x ∧ y' = y) := by
  unfold bef at *
  omega
theorem bef_x {L R B T x y x' y' : Int} (g : inBx L R B T x' y') (hy : T < y) (h : bef x' y' (x + 1) B) : bef x' y' x y := by
  unfold bef inBx at *
  omega
theorem bef_0 {L R B T x' y' : Int} (g : inBx L R B T x' y') : ¬ bef x' y' L B := by
  unfold bef inBx at *
  omega
theorem bef_all {L R B T x y x' y' : Int} (g : inBx L R B T x' y') (hx : R < x) : bef x' y' x y := by
  unfold bef inBx at *
  omega
theorem bef_s {L R B T x y x' y' : Int} (_ : inBx L R B T x' y') (h : bef x' y' x y) : bef x' y' x (y + 1) := by
  unfold bef at *
  omega
theorem bef_e {x y : Int} : bef x y x (y + 1) := by
  unfold bef
  omega
theorem bef_t {L R B T x y x' y' : Int} (g : inBx L R B T x' y') (hy : T < y) (h : bef x' y' x y) : bef x' y' (x + 1) B := by
  unfold bef inBx at *
  omega
/-- some and none, of the places before (x, y) -/
def FxI (P : Int → Int → Int) (L R B T x y so no : Int) : Prop := (so = 0 ∨ so = 1) ∧ (no = 0 ∨ no = 1) ∧ (so = 1 → ∃ x' y' : Int, inBx L R B T x' y' ∧ 0 < P x' y') ∧ (no = 1 → ∃ x' y' : Int, inBx L R B T x' y' ∧ P x' y' ≤ 0) ∧ ∀ x' y' : Int, inBx L R B T x' y' → bef x' y' x y → (0 < P x' y' → so = 1) ∧ (P x' y' ≤ 0 → no = 1)
theorem FxI.some {P : Int → Int → Int} {L R B T x y so no : Int} (h : FxI P L R B T x y so no) (g : inBx L R B T x y) (hp : 0 < P x y) : FxI P L R B T x (y + 1) 1 no := by
  obtain ⟨-, h2, -, h4, h5⟩ := h
  refine ⟨Or.inr rfl, h2, fun _ => ⟨x, y, g, hp⟩, h4, fun x' y' g1 g2 => ⟨fun _ => rfl, fun q => ?_⟩⟩
  rcases bef_y g1 g2 with e | ⟨e1, e2⟩
  · exact (h5 x' y' g1 e).2 q
  · subst e1 e2; omega
theorem FxI.none {P : Int → Int → Int} {L R B T x y so no : Int} (h : FxI P L R B T x y so no) (g : inBx L R B T x y) (hp : P x y ≤ 0) : FxI P L R B T x (y + 1) so 1 := by
  obtain ⟨h1, -, h3, -, h5⟩ := h
  refine ⟨h1, Or.inr rfl, h3, fun _ => ⟨x, y, g, hp⟩, fun x' y' g1 g2 => ⟨fun q => ?_, fun _ => rfl⟩⟩
  rcases bef_y g1 g2 with e | ⟨e1, e2⟩
  · exact (h5 x' y' g1 e).1 q
  · subst e1 e2; omega
theorem FxI.up {P : Int → Int → Int} {L R B T x y so no : Int} (h : FxI P L R B T x y so no) (hy : T < y) : FxI P L R B T (x + 1) B so no :=
  ⟨h.1, h.2.1, h.2.2.1, h.2.2.2.1, fun x' y' g1 g2 => h.2.2.2.2 x' y' g1 (bef_x g1 hy g2)⟩
/-- the patterns seen at the places before (x, y) -/
def SnI (N : Nat → Int) (L R B T x y : Int) (sn : Int32) : Prop := ∀ p : Nat, p < 32 → (bt sn p = true ↔ ∃ x' y' : Int, inBx L R B T x' y' ∧ bef x' y' x y ∧ ptn N x' y' = p)
theorem SnI.next {N : Nat → Int} {L R B T x y : Int} {sn sn2 : Int32} (h : SnI N L R B T x y sn) (g : inBx L R B T x y) (e : sn2 = sn ||| (iI 1 <<< (iI (ptn N x y : Nat) &&& 31))) : SnI N L R B T x (y + 1) sn2 := by
  intro p hp
  rw [e, seen_or (ptn_lt N x y) hp, h p hp]
  constructor
  · rintro (⟨x', y', g1, g2, g3⟩ | e)
    · exact ⟨x', y', g1, bef_s g1 g2, g3⟩
    · exact ⟨x, y, g, bef_e, e.symm⟩
  · rintro ⟨x', y', g1, g2, g3⟩
    rcases bef_y g1 g2 with q | ⟨q1, q2⟩
    · exact Or.inl ⟨x', y', g1, q, g3⟩
    · subst q1 q2; exact Or.inr g3.symm
theorem SnI.up {N : Nat → Int} {L R B T x y : Int} {sn : Int32} (h : SnI N L R B T x y sn) (hy : T < y) : SnI N L R B T (x + 1) B sn := by
  intro p hp
  rw [h p hp]
  constructor
  · rintro ⟨x', y', g1, g2, g3⟩
    exact ⟨x', y', g1, bef_t g1 hy g2, g3⟩
  · rintro ⟨x', y', g1, g2, g3⟩
    exact ⟨x', y', g1, bef_x g1 hy g2, g3⟩
set_option maxHeartbeats 4000000 in
theorem tX1_fixed (l : Launch) (D : va_G) (dA : Bool → ClassId) (h : Nat) (q : Nat → Nat) (G : Nat → Nat → Int) (a1 a2 a3 a4 : Int) (t f s : Int) (ht : inR t) (hf0 : inR f) (hs0 : inR s) (hB : NB (G 0)) : XM l yX1_fixed cX1_fixed 8 (some .int) 4 D dA (xw 1 dA h q) [.ref h, vI t, vI f, vI s] (G, [a1, a2, a3, a4]) (fun r u => RFixed (G 0) t f s r ∧ u.1 0 = G 0 ∧ shp1 u.2) := by
  refine XM.of (by decide +kernel) (by simp [Value.category]) (Nat.le_of_ble_eq_true rfl) ?_
  intro X hX hret
  have hX : XOK l (xR 1) cX1_fixed 8 (rmL 4) D dA (xw 1 dA h q) X := hX
  refine x_iload_n hX dX1_fixed_0 rfl ?_
  refine x_if_lt (tgt := 9) hX dX1_fixed_1 (by decide) ⟨by omega, by omega⟩ (fun c1 => ?_) (fun c1 => ?_)
  · refine x_iconst hX dX1_fixed_9 ?_
    exact hret _ _ _ _ dX1_fixed_10 (by first | exact ⟨Or.inl ⟨by omega, rfl⟩, rfl, _, _, _, _, rfl⟩ | exact ⟨Or.inr ⟨t.toNat, by omega, by omega, Or.inl ⟨hno, rfl⟩⟩, rfl, _, _, _, _, rfl⟩)
  · refine x_iload_n hX dX1_fixed_4 rfl ?_
    refine x_iconst hX dX1_fixed_5 ?_
    refine x_icmp_le (tgt := 11) hX dX1_fixed_6 (by decide) ⟨by omega, by omega⟩ ⟨by omega, by omega⟩ (fun c2 => ?_) (fun c2 => ?_)
    · refine x_aload_n hX dX1_fixed_11 rfl ?_
      refine x_iload_n hX dX1_fixed_12 rfl ?_
      refine x_iload_n hX dX1_fixed_13 rfl ?_
      refine x_callI hX (by decide) [vI f, vI s] [] (tX1_take l D dA h q G a1 a2 a3 a4 f s ⟨by omega, by omega⟩ ⟨by omega, by omega⟩) q268 q270 qs19 q26 q271 (show dsc (xR 1) yX1_take 2 by decide +kernel) (by decide) rfl (Nat.le_of_ble_eq_true rfl) dX1_fixed_14 (fun rt ut hut => ?_)
      rcases hut with ⟨ht1, hf, hs9, rfl⟩ | ⟨ht1, hno, rfl⟩
      · subst ht1
        obtain ⟨f1, f2, f3⟩ := id hf
        obtain ⟨g1, g2, g3⟩ := id hs9
        refine x_if_ne (tgt := 23) hX dX1_fixed_17 (by decide) ⟨by omega, by omega⟩ (fun c3 => ?_) (fun c3 => absurd c3 (by omega))
        have LI : ∀ x : Int, f / 32 - 16 ≤ x → x ≤ f % 32 - 16 → (∀ so no y : Int, FxI (nV (G 0) t.toNat) (f / 32 - 16) (f % 32 - 16) (s / 32 - 16) (s % 32 - 16) (x + 1) (s / 32 - 16) so no → X (G, [f / 32 - 16, f % 32 - 16, s / 32 - 16, s % 32 - 16]) 86 [.ref h, vI t, vI f, vI s, vI so, vI no, vI x, vI y] []) → ∀ (n : Nat) (y so no : Int), s / 32 - 16 ≤ y → y ≤ s % 32 - 16 + 1 → s % 32 - 16 + 2 ≤ y + (n : Int) → FxI (nV (G 0) t.toNat) (f / 32 - 16) (f % 32 - 16) (s / 32 - 16) (s % 32 - 16) x y so no → X (G, [f / 32 - 16, f % 32 - 16, s / 32 - 16, s % 32 - 16]) 50 [.ref h, vI t, vI f, vI s, vI so, vI no, vI x, vI y] [] := by
          intro x hx1 hx2 kk n
          induction n with
          | zero => intro y so no e1 e2 e3; exact absurd e3 (by omega)
          | succ n ih =>
            intro y so no e1 e2 e3 hI
            refine x_iload hX dX1_fixed_50 rfl ?_
            refine x_aload_n hX dX1_fixed_52 rfl ?_
            refine x_getS hX (by decide) 3 rfl (by decide) q203 dX1_fixed_53 ?_
            refine x_icmp_gt (tgt := 86) hX dX1_fixed_56 (by decide) ⟨by omega, by omega⟩ ⟨by omega, by omega⟩ (fun c1 => ?_) (fun c1 => ?_)
            · exact kk so no y (hI.up (by omega))
            · refine x_aload_n hX dX1_fixed_59 rfl ?_
              refine x_iload_n hX dX1_fixed_60 rfl ?_
              refine x_iload hX dX1_fixed_61 rfl ?_
              refine x_iload hX dX1_fixed_63 rfl ?_
              refine x_callI hX (by decide) [vI t, vI x, vI y] [] (tX1_unitGiven l D dA h q G _ t.toNat t (by omega) (by omega) x y hB ⟨by omega, by omega⟩ ⟨by omega, by omega⟩) q260 q262 qs18 q26 q263 (show dsc (xR 1) yX1_unitGiven 3 by decide +kernel) (by decide) rfl (Nat.le_of_ble_eq_true rfl) dX1_fixed_65 (fun r1 u1 hu1 => ?_)
              obtain ⟨hr1, rfl⟩ := hu1
              have hvb := nV_b hB t.toNat (x := x) (y := y) (by omega) (by omega)
              have hcb := cl_b hvb
              have hiff : 0 < r1 ↔ 0 < nV (G 0) t.toNat x y := by rw [hr1]; unfold cl; split <;> omega
              refine x_if_le (tgt := 77) hX dX1_fixed_68 (by decide) ⟨by omega, by omega⟩ (fun c2 => ?_) (fun c2 => ?_)
              · refine x_iconst hX dX1_fixed_77 ?_
                refine x_istore (vs' := [.ref h, vI t, vI f, vI s, vI so, vI 1, vI x, vI y]) hX dX1_fixed_78 ⟨Nat.le_of_ble_eq_true rfl, Nat.le_of_ble_eq_true rfl⟩ rfl ?_
                refine x_iinc (vs' := [.ref h, vI t, vI f, vI s, vI so, vI 1, vI x, vI (y + 1)]) hX dX1_fixed_80 rfl (by decide) rfl ?_
                refine x_goto (tgt := 50) hX dX1_fixed_83 (by decide) ?_
                exact ih _ _ _ (by omega) (by omega) (by omega) (hI.none ⟨hx1, hx2, by omega, by omega⟩ (by omega))
              · refine x_iconst hX dX1_fixed_71 ?_
                refine x_istore (vs' := [.ref h, vI t, vI f, vI s, vI 1, vI no, vI x, vI y]) hX dX1_fixed_72 ⟨Nat.le_of_ble_eq_true rfl, Nat.le_of_ble_eq_true rfl⟩ rfl ?_
                refine x_goto (tgt := 80) hX dX1_fixed_74 (by decide) ?_
                refine x_iinc (vs' := [.ref h, vI t, vI f, vI s, vI 1, vI no, vI x, vI (y + 1)]) hX dX1_fixed_80 rfl (by decide) rfl ?_
                refine x_goto (tgt := 50) hX dX1_fixed_83 (by decide) ?_
                exact ih _ _ _ (by omega) (by omega) (by omega) (hI.some ⟨hx1, hx2, by omega, by omega⟩ (by omega))
        have LO : ∀ (n : Nat) (x so no : Int), f / 32 - 16 ≤ x → x ≤ f % 32 - 16 + 1 → f % 32 - 16 + 2 ≤ x + (n : Int) → FxI (nV (G 0) t.toNat) (f / 32 - 16) (f % 32 - 16) (s / 32 - 16) (s % 32 - 16) x (s / 32 - 16) so no → X (G, [f / 32 - 16, f % 32 - 16, s / 32 - 16, s % 32 - 16]) 35 [.ref h, vI t, vI f, vI s, vI so, vI no, vI x] [] := by
          intro n
          induction n with
          | zero => intro x so no e1 e2 e3; exact absurd e3 (by omega)
          | succ n ih =>
            intro x so no e1 e2 e3 hI
            have hso := hI.1
            have hno := hI.2.1
            refine x_iload hX dX1_fixed_35 rfl ?_
            refine x_aload_n hX dX1_fixed_37 rfl ?_
            refine x_getS hX (by decide) 1 rfl (by decide) q201 dX1_fixed_38 ?_
            refine x_icmp_gt (tgt := 92) hX dX1_fixed_41 (by decide) ⟨by omega, by omega⟩ ⟨by omega, by omega⟩ (fun c1 => ?_) (fun c1 => ?_)
            · refine x_iload hX dX1_fixed_92 rfl ?_
              refine x_if_eq (tgt := 106) hX dX1_fixed_94 (by decide) ⟨by omega, by omega⟩ (fun c2 => ?_) (fun c2 => ?_)
              · refine x_iload hX dX1_fixed_106 rfl ?_
                refine x_if_eq (tgt := 115) hX dX1_fixed_108 (by decide) ⟨by omega, by omega⟩ (fun c3 => ?_) (fun c3 => ?_)
                · refine x_iconst hX dX1_fixed_115 ?_
                  exact hret _ _ _ _ dX1_fixed_116 ⟨Or.inr ⟨t.toNat, by omega, by omega, Or.inr ⟨hf, hs9, by obtain ⟨-, -, q3, q4, q5⟩ := hI; first | exact Or.inr (Or.inr ⟨rfl, q3 (by clear q3 q4; omega), q4 (by clear q3 q4; omega)⟩) | exact Or.inl ⟨rfl, fun x' y' g => by have := q5 x' y' g (bef_all g (by clear q3 q4; omega)); clear q3 q4; omega⟩ | exact Or.inr (Or.inl ⟨rfl, fun x' y' g => by have := q5 x' y' g (bef_all g (by clear q3 q4; omega)); clear q3 q4; omega⟩)⟩⟩, rfl, _, _, _, _, rfl⟩
                · refine x_iconst hX dX1_fixed_111 ?_
                  refine x_goto (tgt := 116) hX dX1_fixed_112 (by decide) ?_
                  exact hret _ _ _ _ dX1_fixed_116 ⟨Or.inr ⟨t.toNat, by omega, by omega, Or.inr ⟨hf, hs9, by obtain ⟨-, -, q3, q4, q5⟩ := hI; first | exact Or.inr (Or.inr ⟨rfl, q3 (by clear q3 q4; omega), q4 (by clear q3 q4; omega)⟩) | exact Or.inl ⟨rfl, fun x' y' g => by have := q5 x' y' g (bef_all g (by clear q3 q4; omega)); clear q3 q4; omega⟩ | exact Or.inr (Or.inl ⟨rfl, fun x' y' g => by have := q5 x' y' g (bef_all g (by clear q3 q4; omega)); clear q3 q4; omega⟩)⟩⟩, rfl, _, _, _, _, rfl⟩
              · refine x_iload hX dX1_fixed_97 rfl ?_
                refine x_if_eq (tgt := 106) hX dX1_fixed_99 (by decide) ⟨by omega, by omega⟩ (fun c4 => ?_) (fun c4 => ?_)
                · refine x_iload hX dX1_fixed_106 rfl ?_
                  refine x_if_eq (tgt := 115) hX dX1_fixed_108 (by decide) ⟨by omega, by omega⟩ (fun c5 => ?_) (fun c5 => absurd c5 (by omega))
                  refine x_iconst hX dX1_fixed_115 ?_
                  exact hret _ _ _ _ dX1_fixed_116 ⟨Or.inr ⟨t.toNat, by omega, by omega, Or.inr ⟨hf, hs9, by obtain ⟨-, -, q3, q4, q5⟩ := hI; first | exact Or.inr (Or.inr ⟨rfl, q3 (by clear q3 q4; omega), q4 (by clear q3 q4; omega)⟩) | exact Or.inl ⟨rfl, fun x' y' g => by have := q5 x' y' g (bef_all g (by clear q3 q4; omega)); clear q3 q4; omega⟩ | exact Or.inr (Or.inl ⟨rfl, fun x' y' g => by have := q5 x' y' g (bef_all g (by clear q3 q4; omega)); clear q3 q4; omega⟩)⟩⟩, rfl, _, _, _, _, rfl⟩
                · refine x_iconst hX dX1_fixed_102 ?_
                  refine x_goto (tgt := 116) hX dX1_fixed_103 (by decide) ?_
                  exact hret _ _ _ _ dX1_fixed_116 ⟨Or.inr ⟨t.toNat, by omega, by omega, Or.inr ⟨hf, hs9, by obtain ⟨-, -, q3, q4, q5⟩ := hI; first | exact Or.inr (Or.inr ⟨rfl, q3 (by clear q3 q4; omega), q4 (by clear q3 q4; omega)⟩) | exact Or.inl ⟨rfl, fun x' y' g => by have := q5 x' y' g (bef_all g (by clear q3 q4; omega)); clear q3 q4; omega⟩ | exact Or.inr (Or.inl ⟨rfl, fun x' y' g => by have := q5 x' y' g (bef_all g (by clear q3 q4; omega)); clear q3 q4; omega⟩)⟩⟩, rfl, _, _, _, _, rfl⟩
            · refine x_aload_n hX dX1_fixed_44 rfl ?_
              refine x_getS hX (by decide) 2 rfl (by decide) q202 dX1_fixed_45 ?_
              refine x_istore (vs' := [.ref h, vI t, vI f, vI s, vI so, vI no, vI x, vI (s / 32 - 16)]) hX dX1_fixed_48 ⟨Nat.le_of_ble_eq_true rfl, Nat.le_of_ble_eq_true rfl⟩ rfl ?_
              refine LI x e1 (by omega) (fun so2 no2 y hI2 => ?_) (s % 32 - 16 + 2 - (s / 32 - 16)).toNat _ so no (by omega) (by omega) (by omega) hI
              refine x_iinc (vs' := [.ref h, vI t, vI f, vI s, vI so2, vI no2, vI (x + 1), vI y]) hX dX1_fixed_86 rfl (by decide) rfl ?_
              refine x_goto (tgt := 35) hX dX1_fixed_89 (by decide) ?_
              refine x_take hX 7 (vs' := [.ref h, vI t, vI f, vI s, vI so2, vI no2, vI (x + 1)]) rfl ?_
              exact ih (x + 1) so2 no2 (by omega) (by omega) (by omega) hI2
        refine x_iconst hX dX1_fixed_23 ?_
        refine x_istore (vs' := [.ref h, vI t, vI f, vI s, vI 0]) hX dX1_fixed_24 ⟨Nat.le_of_ble_eq_true rfl, Nat.le_of_ble_eq_true rfl⟩ rfl ?_
        refine x_iconst hX dX1_fixed_26 ?_
        refine x_istore (vs' := [.ref h, vI t, vI f, vI s, vI 0, vI 0]) hX dX1_fixed_27 ⟨Nat.le_of_ble_eq_true rfl, Nat.le_of_ble_eq_true rfl⟩ rfl ?_
        refine x_aload_n hX dX1_fixed_29 rfl ?_
        refine x_getS hX (by decide) 0 rfl (by decide) q200 dX1_fixed_30 ?_
        refine x_istore (vs' := [.ref h, vI t, vI f, vI s, vI 0, vI 0, vI (f / 32 - 16)]) hX dX1_fixed_33 ⟨Nat.le_of_ble_eq_true rfl, Nat.le_of_ble_eq_true rfl⟩ rfl ?_
        exact LO (f % 32 - 16 + 2 - (f / 32 - 16)).toNat _ 0 0 (by omega) (by omega) (by omega) ⟨Or.inl rfl, Or.inl rfl, fun q => absurd q (by decide), fun q => absurd q (by decide), fun x' y' g1 g2 => absurd g2 (bef_0 g1)⟩
      · subst ht1
        refine x_if_ne (tgt := 23) hX dX1_fixed_17 (by decide) ⟨by omega, by omega⟩ (fun c4 => absurd c4 (by omega)) (fun c4 => ?_)
        refine x_bipush hX dX1_fixed_20 (by decide +kernel) ?_
        exact hret _ _ _ _ dX1_fixed_22 (by first | exact ⟨Or.inl ⟨by omega, rfl⟩, rfl, _, _, _, _, rfl⟩ | exact ⟨Or.inr ⟨t.toNat, by omega, by omega, Or.inl ⟨hno, rfl⟩⟩, rfl, _, _, _, _, rfl⟩)
    · refine x_iconst hX dX1_fixed_9 ?_
      exact hret _ _ _ _ dX1_fixed_10 (by first | exact ⟨Or.inl ⟨by omega, rfl⟩, rfl, _, _, _, _, rfl⟩ | exact ⟨Or.inr ⟨t.toNat, by omega, by omega, Or.inl ⟨hno, rfl⟩⟩, rfl, _, _, _, _, rfl⟩)
set_option maxHeartbeats 4000000 in
theorem tX1_patterns (l : Launch) (D : va_G) (dA : Bool → ClassId) (h : Nat) (q : Nat → Nat) (G : Nat → Nat → Int) (a1 a2 a3 a4 : Int) (f s : Int) (hf0 : inR f) (hs0 : inR s) (hB : NB (G 0)) : XM l yX1_patterns cX1_patterns 6 (some .int) 5 D dA (xw 1 dA h q) [.ref h, vI f, vI s] (G, [a1, a2, a3, a4]) (fun r u => RBox (Cnt (G 0)) (-1) f s r ∧ u.1 0 = G 0 ∧ shp1 u.2) := by
  refine XM.of (by decide +kernel) (by simp [Value.category]) (Nat.le_of_ble_eq_true rfl) ?_
  intro X hX hret
  have hX : XOK l (xR 1) cX1_patterns 6 (rmL 5) D dA (xw 1 dA h q) X := hX
  refine x_aload_n hX dX1_patterns_0 rfl ?_
  refine x_iload_n hX dX1_patterns_1 rfl ?_
  refine x_iload_n hX dX1_patterns_2 rfl ?_
  refine x_callI hX (by decide) [vI f, vI s] [] (tX1_take l D dA h q G a1 a2 a3 a4 f s ⟨by omega, by omega⟩ ⟨by omega, by omega⟩) q268 q270 qs19 q26 q271 (show dsc (xR 1) yX1_take 2 by decide +kernel) (by decide) rfl (Nat.le_of_ble_eq_true rfl) dX1_patterns_3 (fun rt ut hut => ?_)
  rcases hut with ⟨ht1, hf, hs9, rfl⟩ | ⟨ht1, hno, rfl⟩
  · subst ht1
    obtain ⟨f1, f2, f3⟩ := id hf
    obtain ⟨g1, g2, g3⟩ := id hs9
    refine x_if_ne (tgt := 11) hX dX1_patterns_6 (by decide) ⟨by omega, by omega⟩ (fun c1 => ?_) (fun c1 => absurd c1 (by omega))
    have LC : ∀ sn : Int32, Cnt (G 0) (f / 32 - 16) (f % 32 - 16) (s / 32 - 16) (s % 32 - 16) (cN (bt sn) 32) → ∀ (m p : Nat) (i sum : Int), p ≤ 32 → 33 ≤ p + m → i = (p : Int) → sum = cN (bt sn) p → X (G, [f / 32 - 16, f % 32 - 16, s / 32 - 16, s % 32 - 16]) 74 [.ref h, vI f, vI s, .int sn, vI sum, vI i] [] := by
      intro sn hc m
      induction m with
      | zero => intro p i sum e1 e2; exact absurd e2 (by omega)
      | succ m ih =>
        intro p i sum e1 e2 hi hs
        refine x_iload hX dX1_patterns_74 rfl ?_
        refine x_bipush hX dX1_patterns_76 (by decide +kernel) ?_
        refine x_icmp_ge (tgt := 98) hX dX1_patterns_78 (by decide) ⟨by omega, by omega⟩ ⟨by omega, by omega⟩ (fun c1 => ?_) (fun c1 => ?_)
        · refine x_iload hX dX1_patterns_98 rfl ?_
          have e9 : p = 32 := by omega
          subst e9
          exact hret _ _ _ _ dX1_patterns_100 ⟨Or.inr ⟨hf, hs9, by rw [hs]; exact hc⟩, rfl, _, _, _, _, rfl⟩
        · refine x_iload hX dX1_patterns_81 rfl ?_
          refine x_iload_n hX dX1_patterns_83 rfl ?_
          refine x_iload hX dX1_patterns_84 rfl ?_
          refine x_ishr hX dX1_patterns_86 rfl ?_
          refine x_iconst hX dX1_patterns_87 ?_
          refine x_iand (v := iI (if bt sn p = true then 1 else 0)) hX dX1_patterns_88 (by rw [hi]; exact sshr1 (by omega)) ?_
          refine x_iadd hX dX1_patterns_89 ?_
          refine x_istore (vs' := [.ref h, vI f, vI s, .int sn, vI (sum + (if bt sn p = true then 1 else 0)), vI i]) hX dX1_patterns_90 ⟨Nat.le_of_ble_eq_true rfl, Nat.le_of_ble_eq_true rfl⟩ rfl ?_
          refine x_iinc (vs' := [.ref h, vI f, vI s, .int sn, vI (sum + (if bt sn p = true then 1 else 0)), vI (i + 1)]) hX dX1_patterns_92 rfl (by decide) rfl ?_
          refine x_goto (tgt := 74) hX dX1_patterns_95 (by decide) ?_
          exact ih (p + 1) _ _ (by omega) (by omega) (by omega) (by rw [hs]; rfl)
    have LI : ∀ x : Int, f / 32 - 16 ≤ x → x ≤ f % 32 - 16 → (∀ (sn : Int32) (y : Int), SnI (G 0) (f / 32 - 16) (f % 32 - 16) (s / 32 - 16) (s % 32 - 16) (x + 1) (s / 32 - 16) sn → X (G, [f / 32 - 16, f % 32 - 16, s / 32 - 16, s % 32 - 16]) 62 [.ref h, vI f, vI s, .int sn, vI x, vI y] []) → ∀ (n : Nat) (y : Int) (sn : Int32), s / 32 - 16 ≤ y → y ≤ s % 32 - 16 + 1 → s % 32 - 16 + 2 ≤ y + (n : Int) → SnI (G 0) (f / 32 - 16) (f % 32 - 16) (s / 32 - 16) (s % 32 - 16) x y sn → X (G, [f / 32 - 16, f % 32 - 16, s / 32 - 16, s % 32 - 16]) 34 [.ref h, vI f, vI s, .int sn, vI x, vI y] [] := by
      intro x hx1 hx2 kk n
      induction n with
      | zero => intro y sn e1 e2 e3; exact absurd e3 (by omega)
      | succ n ih =>
        intro y sn e1 e2 e3 hI
        refine x_iload hX dX1_patterns_34 rfl ?_
        refine x_aload_n hX dX1_patterns_36 rfl ?_
        refine x_getS hX (by decide) 3 rfl (by decide) q203 dX1_patterns_37 ?_
        refine x_icmp_gt (tgt := 62) hX dX1_patterns_40 (by decide) ⟨by omega, by omega⟩ ⟨by omega, by omega⟩ (fun c1 => ?_) (fun c1 => ?_)
        · exact kk sn y (hI.up (by omega))
        · refine x_iload_n hX dX1_patterns_43 rfl ?_
          refine x_iconst hX dX1_patterns_44 ?_
          refine x_aload_n hX dX1_patterns_45 rfl ?_
          refine x_iload hX dX1_patterns_46 rfl ?_
          refine x_iload hX dX1_patterns_48 rfl ?_
          refine x_callI hX (by decide) [vI x, vI y] [vI 1, .int sn] (tX1_marks l D dA h q G _ x y hB ⟨by omega, by omega⟩ ⟨by omega, by omega⟩) q312 q314 qs23 q26 q315 (show dsc (xR 1) yX1_marks 2 by decide +kernel) (by decide) rfl (Nat.le_of_ble_eq_true rfl) dX1_patterns_50 (fun r1 u1 hu1 => ?_)
          obtain ⟨hr1, rfl⟩ := hu1
          refine x_ishl hX dX1_patterns_53 rfl ?_
          refine x_ior hX dX1_patterns_54 rfl ?_
          refine x_topr (fun sn2 hsn2 => ?_)
          rw [hr1] at hsn2
          refine x_istore_n (vs' := [.ref h, vI f, vI s, .int sn2, vI x, vI y]) hX dX1_patterns_55 ⟨Nat.le_of_ble_eq_true rfl, Nat.le_of_ble_eq_true rfl⟩ rfl ?_
          refine x_iinc (vs' := [.ref h, vI f, vI s, .int sn2, vI x, vI (y + 1)]) hX dX1_patterns_56 rfl (by decide) rfl ?_
          refine x_goto (tgt := 34) hX dX1_patterns_59 (by decide) ?_
          exact ih _ _ (by omega) (by omega) (by omega) (hI.next ⟨hx1, hx2, by omega, by omega⟩ hsn2)
    have LO : ∀ (n : Nat) (x : Int) (sn : Int32), f / 32 - 16 ≤ x → x ≤ f % 32 - 16 + 1 → f % 32 - 16 + 2 ≤ x + (n : Int) → SnI (G 0) (f / 32 - 16) (f % 32 - 16) (s / 32 - 16) (s % 32 - 16) x (s / 32 - 16) sn → X (G, [f / 32 - 16, f % 32 - 16, s / 32 - 16, s % 32 - 16]) 19 [.ref h, vI f, vI s, .int sn, vI x] [] := by
      intro n
      induction n with
      | zero => intro x sn e1 e2 e3; exact absurd e3 (by omega)
      | succ n ih =>
        intro x sn e1 e2 e3 hI
        refine x_iload hX dX1_patterns_19 rfl ?_
        refine x_aload_n hX dX1_patterns_21 rfl ?_
        refine x_getS hX (by decide) 1 rfl (by decide) q201 dX1_patterns_22 ?_
        refine x_icmp_gt (tgt := 68) hX dX1_patterns_25 (by decide) ⟨by omega, by omega⟩ ⟨by omega, by omega⟩ (fun c1 => ?_) (fun c1 => ?_)
        · refine x_iconst hX dX1_patterns_68 ?_
          refine x_istore (vs' := [.ref h, vI f, vI s, .int sn, vI 0]) hX dX1_patterns_69 ⟨Nat.le_of_ble_eq_true rfl, Nat.le_of_ble_eq_true rfl⟩ rfl ?_
          refine x_iconst hX dX1_patterns_71 ?_
          refine x_istore (vs' := [.ref h, vI f, vI s, .int sn, vI 0, vI 0]) hX dX1_patterns_72 ⟨Nat.le_of_ble_eq_true rfl, Nat.le_of_ble_eq_true rfl⟩ rfl ?_
          exact LC sn ⟨bt sn, fun p hp => by
            rw [hI p hp]
            constructor
            · rintro ⟨x', y', q1, -, q3⟩
              exact ⟨x', y', q1, q3⟩
            · rintro ⟨x', y', q1, q3⟩
              exact ⟨x', y', q1, bef_all q1 (by omega), q3⟩, rfl⟩ 33 0 0 0 (by omega) (by omega) rfl rfl
        · refine x_aload_n hX dX1_patterns_28 rfl ?_
          refine x_getS hX (by decide) 2 rfl (by decide) q202 dX1_patterns_29 ?_
          refine x_istore (vs' := [.ref h, vI f, vI s, .int sn, vI x, vI (s / 32 - 16)]) hX dX1_patterns_32 ⟨Nat.le_of_ble_eq_true rfl, Nat.le_of_ble_eq_true rfl⟩ rfl ?_
          refine LI x e1 (by omega) (fun sn2 y hI2 => ?_) (s % 32 - 16 + 2 - (s / 32 - 16)).toNat _ sn (by omega) (by omega) (by omega) hI
          refine x_iinc (vs' := [.ref h, vI f, vI s, .int sn2, vI (x + 1), vI y]) hX dX1_patterns_62 rfl (by decide) rfl ?_
          refine x_goto (tgt := 19) hX dX1_patterns_65 (by decide) ?_
          refine x_take hX 5 (vs' := [.ref h, vI f, vI s, .int sn2, vI (x + 1)]) rfl ?_
          exact ih (x + 1) sn2 (by omega) (by omega) (by omega) hI2
    refine x_iconst hX dX1_patterns_11 ?_
    refine x_istore_n (vs' := [.ref h, vI f, vI s, vI 0]) hX dX1_patterns_12 ⟨Nat.le_of_ble_eq_true rfl, Nat.le_of_ble_eq_true rfl⟩ rfl ?_
    refine x_aload_n hX dX1_patterns_13 rfl ?_
    refine x_getS hX (by decide) 0 rfl (by decide) q200 dX1_patterns_14 ?_
    refine x_istore (vs' := [.ref h, vI f, vI s, vI 0, vI (f / 32 - 16)]) hX dX1_patterns_17 ⟨Nat.le_of_ble_eq_true rfl, Nat.le_of_ble_eq_true rfl⟩ rfl ?_
    exact LO (f % 32 - 16 + 2 - (f / 32 - 16)).toNat _ (iI 0) (by omega) (by omega) (by omega) (fun p hp => by
      rw [iI_0, b_0]
      constructor
      · intro q; cases q
      · rintro ⟨x', y', q1, q2, -⟩
        exact absurd q2 (bef_0 q1))
  · subst ht1
    refine x_if_ne (tgt := 11) hX dX1_patterns_6 (by decide) ⟨by omega, by omega⟩ (fun c2 => absurd c2 (by omega)) (fun c2 => ?_)
    refine x_iconst hX dX1_patterns_9 ?_
    exact hret _ _ _ _ dX1_patterns_10 ⟨Or.inl ⟨hno, rfl⟩, rfl, _, _, _, _, rfl⟩
end
section
set_option maxRecDepth 100000
set_option maxHeartbeats 4000000 in
theorem tX1_radius (l : Launch) (D : va_G) (dA : Bool → ClassId) (h : Nat) (q : Nat → Nat) (G : Nat → Nat → Int) (a1 a2 a3 a4 : Int) (x0 x1 lim : Int) (h0 : inR x0) (h1 : inR x1) (hlim : inR lim) (hB : NB (G 0)) : XM l yX1_radius cX1_radius 5 (some .int) 5 D dA (xw 1 dA h q) [.ref h, vI x0, vI x1, vI lim] (G, [a1, a2, a3, a4]) (fun r u => RRad (G 0) x0 x1 lim r ∧ u.1 0 = G 0 ∧ shp1 u.2) := by
  refine XM.of (by decide +kernel) (by simp [Value.category]) (Nat.le_of_ble_eq_true rfl) ?_
  intro X hX hret
  have hX : XOK l (xR 1) cX1_radius 5 (rmL 5) D dA (xw 1 dA h q) X := hX
  have LR : okX x0 → okX x1 → ∀ (n k : Nat) (i a1 a2 a3 a4 : Int), i = (k : Int) → k ≤ 32 → 33 ≤ k + n → (∀ r' : Int, 0 ≤ r' → r' < i → AllLe (G 0) lim x0 x1 r') → X (G, [a1, a2, a3, a4]) 21 [.ref h, vI x0, vI x1, vI lim, vI i] [] := by
    intro o0 o1 n
    induction n with
    | zero => intro k i a1 a2 a3 a4 e1 e2 e3; exact absurd e3 (by omega)
    | succ n ih =>
      intro k i a1 a2 a3 a4 hi hk32 hkn hall
      refine x_iload hX dX1_radius_21 rfl ?_
      refine x_bipush hX dX1_radius_23 (by decide +kernel) ?_
      refine x_icmp_ge (tgt := 145) hX dX1_radius_25 (by decide) ⟨by omega, by omega⟩ ⟨by omega, by omega⟩ (fun c1 => ?_) (fun c1 => ?_)
      · refine x_bipush hX dX1_radius_145 (by decide +kernel) ?_
        exact hret _ _ _ _ dX1_radius_147 ⟨Or.inr ⟨o0, o1, Or.inr ⟨by omega, by omega, hall 31 (by omega) (by omega), Or.inl rfl⟩⟩, rfl, _, _, _, _, rfl⟩
      · have hi32 : 0 ≤ i ∧ i < 32 := by omega
        have j0 : ∀ v1 : Int, v1 = lo16 x0 i → X (G, [a1, a2, a3, a4]) 47 [.ref h, vI x0, vI x1, vI lim, vI i] [vI v1, .ref h] := by
          intro v1 e1
          refine x_putS (sc' := [v1, a2, a3, a4]) hX (by decide) 0 rfl (by decide) rfl (by decide +kernel) q200 dX1_radius_47 rfl ?_
          have j1 : ∀ v2 : Int, v2 = hi16 x0 i → X (G, [v1, a2, a3, a4]) 69 [.ref h, vI x0, vI x1, vI lim, vI i] [vI v2, .ref h] := by
            intro v2 e2
            refine x_putS (sc' := [v1, v2, a3, a4]) hX (by decide) 1 rfl (by decide) rfl (by decide +kernel) q201 dX1_radius_69 rfl ?_
            have j2 : ∀ v3 : Int, v3 = lo16 x1 i → X (G, [v1, v2, a3, a4]) 91 [.ref h, vI x0, vI x1, vI lim, vI i] [vI v3, .ref h] := by
              intro v3 e3
              refine x_putS (sc' := [v1, v2, v3, a4]) hX (by decide) 2 rfl (by decide) rfl (by decide +kernel) q202 dX1_radius_91 rfl ?_
              have j3 : ∀ v4 : Int, v4 = hi16 x1 i → X (G, [v1, v2, v3, a4]) 113 [.ref h, vI x0, vI x1, vI lim, vI i] [vI v4, .ref h] := by
                intro v4 e4
                refine x_putS (sc' := [v1, v2, v3, v4]) hX (by decide) 3 rfl (by decide) rfl (by decide +kernel) q203 dX1_radius_113 rfl ?_
                refine x_aload_n hX dX1_radius_116 rfl ?_
                refine x_iload_n hX dX1_radius_117 rfl ?_
                have z8 := ball_ok (x := x0) (r := i) (by omega) (by omega)
                have z9 := ball_ok (x := x1) (r := i) (by omega) (by omega)
                rw [← e1, ← e2] at z8
                rw [← e3, ← e4] at z9
                refine x_callI hX (by decide) [vI lim] [] (tX1_above l D dA h q G v1 v2 v3 v4 lim ⟨by omega, by omega⟩ hB ⟨by omega, by omega, by omega⟩ ⟨by omega, by omega, by omega⟩) q288 q290 qs22 q26 q291 (show dsc (xR 1) yX1_above 1 by decide +kernel) (by decide) rfl (Nat.le_of_ble_eq_true rfl) dX1_radius_118 (fun r2 u2 hu2 => ?_)
                obtain ⟨hr2, rfl⟩ := hu2
                rw [e1, e2, e3, e4] at hr2
                have rb : -2 ≤ r2 ∧ r2 ≤ 1023 := by
                  rcases hr2 with ⟨e, -⟩ | ⟨x, y, g1, -, -, g2⟩
                  · omega
                  · rw [← e1, ← e2, ← e3, ← e4] at g1
                    unfold inBx at g1
                    omega
                refine x_if_lt (tgt := 139) hX dX1_radius_121 (by decide) ⟨by omega, by omega⟩ (fun c1 => ?_) (fun c1 => ?_)
                · refine x_iinc (vs' := [.ref h, vI x0, vI x1, vI lim, vI (i + 1)]) hX dX1_radius_139 rfl (by decide) rfl ?_
                  refine x_goto (tgt := 21) hX dX1_radius_142 (by decide) ?_
                  refine ih (k + 1) _ _ _ _ _ (by omega) (by omega) (by omega) (fun r' g1 g2 => ?_)
                  by_cases er : r' = i
                  · subst er
                    rcases hr2 with ⟨-, e⟩ | ⟨x, y, g3, -, -, g4⟩
                    · exact e
                    · rw [← e1, ← e2, ← e3, ← e4] at g3
                      unfold inBx at g3
                      omega
                  · exact hall r' g1 (by omega)
                · have hnot : ¬ AllLe (G 0) lim x0 x1 i := fun z => by
                    rcases hr2 with ⟨e, -⟩ | ⟨x, y, g3, g4, -, -⟩
                    · omega
                    · have := z x y g3
                      omega
                  refine x_iload hX dX1_radius_124 rfl ?_
                  refine x_if_ne (tgt := 134) hX dX1_radius_126 (by decide) ⟨by omega, by omega⟩ (fun c2 => ?_) (fun c2 => ?_)
                  · refine x_iload hX dX1_radius_134 rfl ?_
                    refine x_iconst hX dX1_radius_136 ?_
                    refine x_isub hX dX1_radius_137 ?_
                    exact hret _ _ _ _ dX1_radius_138 (by first | exact ⟨Or.inr ⟨o0, o1, Or.inl ⟨rfl, by rw [show (0 : Int) = i by omega]; exact hnot⟩⟩, rfl, _, _, _, _, rfl⟩ | exact ⟨Or.inr ⟨o0, o1, Or.inr ⟨by omega, by omega, hall _ (by omega) (by omega), Or.inr (by rw [show i - 1 + 1 = i by omega]; exact hnot)⟩⟩, rfl, _, _, _, _, rfl⟩)
                  · refine x_bipush hX dX1_radius_129 (by decide +kernel) ?_
                    refine x_goto (tgt := 138) hX dX1_radius_131 (by decide) ?_
                    exact hret _ _ _ _ dX1_radius_138 (by first | exact ⟨Or.inr ⟨o0, o1, Or.inl ⟨rfl, by rw [show (0 : Int) = i by omega]; exact hnot⟩⟩, rfl, _, _, _, _, rfl⟩ | exact ⟨Or.inr ⟨o0, o1, Or.inr ⟨by omega, by omega, hall _ (by omega) (by omega), Or.inr (by rw [show i - 1 + 1 = i by omega]; exact hnot)⟩⟩, rfl, _, _, _, _, rfl⟩)
              refine x_aload_n hX dX1_radius_94 rfl ?_
              refine x_iload_n hX dX1_radius_95 rfl ?_
              refine x_iload hX dX1_radius_96 rfl ?_
              refine x_iadd hX dX1_radius_98 ?_
              refine x_bipush hX dX1_radius_99 (by decide +kernel) ?_
              refine x_icmp_le (tgt := 109) hX dX1_radius_101 (by decide) ⟨by omega, by omega⟩ ⟨by omega, by omega⟩ (fun c1 => ?_) (fun c1 => ?_)
              · refine x_iload_n hX dX1_radius_109 rfl ?_
                refine x_iload hX dX1_radius_110 rfl ?_
                refine x_iadd hX dX1_radius_112 ?_
                exact j3 _ (by unfold hi16; split <;> omega)
              · refine x_bipush hX dX1_radius_104 (by decide +kernel) ?_
                refine x_goto (tgt := 113) hX dX1_radius_106 (by decide) ?_
                exact j3 _ (by unfold hi16; split <;> omega)
            refine x_aload_n hX dX1_radius_72 rfl ?_
            refine x_iload_n hX dX1_radius_73 rfl ?_
            refine x_iload hX dX1_radius_74 rfl ?_
            refine x_isub hX dX1_radius_76 ?_
            refine x_bipush hX dX1_radius_77 (by decide +kernel) ?_
            refine x_icmp_ge (tgt := 87) hX dX1_radius_79 (by decide) ⟨by omega, by omega⟩ ⟨by omega, by omega⟩ (fun c1 => ?_) (fun c1 => ?_)
            · refine x_iload_n hX dX1_radius_87 rfl ?_
              refine x_iload hX dX1_radius_88 rfl ?_
              refine x_isub hX dX1_radius_90 ?_
              exact j2 _ (by unfold lo16; split <;> omega)
            · refine x_bipush hX dX1_radius_82 (by decide +kernel) ?_
              refine x_goto (tgt := 91) hX dX1_radius_84 (by decide) ?_
              exact j2 _ (by unfold lo16; split <;> omega)
          refine x_aload_n hX dX1_radius_50 rfl ?_
          refine x_iload_n hX dX1_radius_51 rfl ?_
          refine x_iload hX dX1_radius_52 rfl ?_
          refine x_iadd hX dX1_radius_54 ?_
          refine x_bipush hX dX1_radius_55 (by decide +kernel) ?_
          refine x_icmp_le (tgt := 65) hX dX1_radius_57 (by decide) ⟨by omega, by omega⟩ ⟨by omega, by omega⟩ (fun c1 => ?_) (fun c1 => ?_)
          · refine x_iload_n hX dX1_radius_65 rfl ?_
            refine x_iload hX dX1_radius_66 rfl ?_
            refine x_iadd hX dX1_radius_68 ?_
            exact j1 _ (by unfold hi16; split <;> omega)
          · refine x_bipush hX dX1_radius_60 (by decide +kernel) ?_
            refine x_goto (tgt := 69) hX dX1_radius_62 (by decide) ?_
            exact j1 _ (by unfold hi16; split <;> omega)
        refine x_aload_n hX dX1_radius_28 rfl ?_
        refine x_iload_n hX dX1_radius_29 rfl ?_
        refine x_iload hX dX1_radius_30 rfl ?_
        refine x_isub hX dX1_radius_32 ?_
        refine x_bipush hX dX1_radius_33 (by decide +kernel) ?_
        refine x_icmp_ge (tgt := 43) hX dX1_radius_35 (by decide) ⟨by omega, by omega⟩ ⟨by omega, by omega⟩ (fun c1 => ?_) (fun c1 => ?_)
        · refine x_iload_n hX dX1_radius_43 rfl ?_
          refine x_iload hX dX1_radius_44 rfl ?_
          refine x_isub hX dX1_radius_46 ?_
          exact j0 _ (by unfold lo16; split <;> omega)
        · refine x_bipush hX dX1_radius_38 (by decide +kernel) ?_
          refine x_goto (tgt := 47) hX dX1_radius_40 (by decide) ?_
          exact j0 _ (by unfold lo16; split <;> omega)
  refine x_aload_n hX dX1_radius_0 rfl ?_
  refine x_iload_n hX dX1_radius_1 rfl ?_
  refine x_callI hX (by decide) [vI x0] [] (tX1_bad l D dA h q G _ x0 ⟨by omega, by omega⟩) q235 q237 qs13 q26 q238 (show dsc (xR 1) yX1_bad 1 by decide +kernel) (by decide) rfl (Nat.le_of_ble_eq_true rfl) dX1_radius_2 (fun r1 u1 hu1 => ?_)
  obtain ⟨hr1, rfl⟩ := hu1
  refine x_if_ne (tgt := 16) hX dX1_radius_5 (by decide) ⟨by omega, by omega⟩ (fun c1 => ?_) (fun c1 => ?_)
  · refine x_iconst hX dX1_radius_16 ?_
    exact hret _ _ _ _ dX1_radius_17 ⟨Or.inl ⟨by omega, rfl⟩, rfl, _, _, _, _, rfl⟩
  · refine x_aload_n hX dX1_radius_8 rfl ?_
    refine x_iload_n hX dX1_radius_9 rfl ?_
    refine x_callI hX (by decide) [vI x1] [] (tX1_bad l D dA h q G _ x1 ⟨by omega, by omega⟩) q235 q237 qs13 q26 q238 (show dsc (xR 1) yX1_bad 1 by decide +kernel) (by decide) rfl (Nat.le_of_ble_eq_true rfl) dX1_radius_10 (fun r2 u2 hu2 => ?_)
    obtain ⟨hr2, rfl⟩ := hu2
    refine x_if_eq (tgt := 18) hX dX1_radius_13 (by decide) ⟨by omega, by omega⟩ (fun c2 => ?_) (fun c2 => ?_)
    · refine x_iconst hX dX1_radius_18 ?_
      refine x_istore (vs' := [.ref h, vI x0, vI x1, vI lim, vI 0]) hX dX1_radius_19 ⟨Nat.le_of_ble_eq_true rfl, Nat.le_of_ble_eq_true rfl⟩ rfl ?_
      exact LR (by omega) (by omega) 33 0 0 _ _ _ _ rfl (by omega) (by omega) (fun r' g1 g2 => absurd g2 (by omega))
    · refine x_iconst hX dX1_radius_16 ?_
      exact hret _ _ _ _ dX1_radius_17 ⟨Or.inl ⟨by omega, rfl⟩, rfl, _, _, _, _, rfl⟩
end
section
/-! the law's own entry -/
set_option maxRecDepth 100000
abbrev cL_law : ByteArray := code
theorem dL_law_0 : decode cL_law 0 = .ok (.new 7, 3) := by decide +kernel
theorem dL_law_3 : decode cL_law 3 = .ok (.dup, 1) := by decide +kernel
theorem dL_law_4 : decode cL_law 4 = .ok (.invokespecial 9, 3) := by decide +kernel
theorem dL_law_7 : decode cL_law 7 = .ok (.astore_n 1, 1) := by decide +kernel
theorem dL_law_8 : decode cL_law 8 = .ok (.new 10, 3) := by decide +kernel
theorem dL_law_11 : decode cL_law 11 = .ok (.dup, 1) := by decide +kernel
theorem dL_law_12 : decode cL_law 12 = .ok (.invokespecial 12, 3) := by decide +kernel
theorem dL_law_15 : decode cL_law 15 = .ok (.astore_n 2, 1) := by decide +kernel
theorem dL_law_16 : decode cL_law 16 = .ok (.iconst 0, 1) := by decide +kernel
theorem dL_law_17 : decode cL_law 17 = .ok (.istore_n 3, 1) := by decide +kernel
theorem dL_law_18 : decode cL_law 18 = .ok (.iload_n 3, 1) := by decide +kernel
theorem dL_law_19 : decode cL_law 19 = .ok (.aload_n 0, 1) := by decide +kernel
theorem dL_law_20 : decode cL_law 20 = .ok (.arraylength, 1) := by decide +kernel
theorem dL_law_21 : decode cL_law 21 = .ok (.iconst 4, 1) := by decide +kernel
theorem dL_law_22 : decode cL_law 22 = .ok (.isub, 1) := by decide +kernel
theorem dL_law_23 : decode cL_law 23 = .ok (.if_icmp .gt 552, 3) := by decide +kernel
theorem dL_law_26 : decode cL_law 26 = .ok (.aload_n 0, 1) := by decide +kernel
theorem dL_law_27 : decode cL_law 27 = .ok (.iload_n 3, 1) := by decide +kernel
theorem dL_law_28 : decode cL_law 28 = .ok (.iaload, 1) := by decide +kernel
theorem dL_law_29 : decode cL_law 29 = .ok (.bipush 15, 2) := by decide +kernel
theorem dL_law_31 : decode cL_law 31 = .ok (.iand, 1) := by decide +kernel
theorem dL_law_32 : decode cL_law 32 = .ok (.tableswitch 537 0 12 #[68, 101, 134, 157, 190, 233, 266, 299, 332, 375, 418, 461, 504], 68) := by decide +kernel
theorem dL_law_100 : decode cL_law 100 = .ok (.aload_n 1, 1) := by decide +kernel
theorem dL_law_101 : decode cL_law 101 = .ok (.aload_n 0, 1) := by decide +kernel
theorem dL_law_102 : decode cL_law 102 = .ok (.iload_n 3, 1) := by decide +kernel
theorem dL_law_103 : decode cL_law 103 = .ok (.iconst 1, 1) := by decide +kernel
theorem dL_law_104 : decode cL_law 104 = .ok (.iadd, 1) := by decide +kernel
theorem dL_law_105 : decode cL_law 105 = .ok (.iaload, 1) := by decide +kernel
theorem dL_law_106 : decode cL_law 106 = .ok (.aload_n 0, 1) := by decide +kernel
theorem dL_law_107 : decode cL_law 107 = .ok (.iload_n 3, 1) := by decide +kernel
theorem dL_law_108 : decode cL_law 108 = .ok (.iconst 2, 1) := by decide +kernel
theorem dL_law_109 : decode cL_law 109 = .ok (.iadd, 1) := by decide +kernel
theorem dL_law_110 : decode cL_law 110 = .ok (.iaload, 1) := by decide +kernel
theorem dL_law_111 : decode cL_law 111 = .ok (.invokevirtual 13, 3) := by decide +kernel
theorem dL_law_114 : decode cL_law 114 = .ok (.aload_n 2, 1) := by decide +kernel
theorem dL_law_115 : decode cL_law 115 = .ok (.aload_n 0, 1) := by decide +kernel
theorem dL_law_116 : decode cL_law 116 = .ok (.iload_n 3, 1) := by decide +kernel
theorem dL_law_117 : decode cL_law 117 = .ok (.iconst 1, 1) := by decide +kernel
theorem dL_law_118 : decode cL_law 118 = .ok (.iadd, 1) := by decide +kernel
theorem dL_law_119 : decode cL_law 119 = .ok (.iaload, 1) := by decide +kernel
theorem dL_law_120 : decode cL_law 120 = .ok (.aload_n 0, 1) := by decide +kernel
theorem dL_law_121 : decode cL_law 121 = .ok (.iload_n 3, 1) := by decide +kernel
theorem dL_law_122 : decode cL_law 122 = .ok (.iconst 2, 1) := by decide +kernel
theorem dL_law_123 : decode cL_law 123 = .ok (.iadd, 1) := by decide +kernel
theorem dL_law_124 : decode cL_law 124 = .ok (.iaload, 1) := by decide +kernel
theorem dL_law_125 : decode cL_law 125 = .ok (.invokevirtual 17, 3) := by decide +kernel
theorem dL_law_128 : decode cL_law 128 = .ok (.if_icmp .eq 441, 3) := by decide +kernel
theorem dL_law_131 : decode cL_law 131 = .ok (.iconst 0, 1) := by decide +kernel
theorem dL_law_132 : decode cL_law 132 = .ok (.ireturn, 1) := by decide +kernel
theorem dL_law_133 : decode cL_law 133 = .ok (.aload_n 1, 1) := by decide +kernel
theorem dL_law_134 : decode cL_law 134 = .ok (.aload_n 0, 1) := by decide +kernel
theorem dL_law_135 : decode cL_law 135 = .ok (.iload_n 3, 1) := by decide +kernel
theorem dL_law_136 : decode cL_law 136 = .ok (.iconst 1, 1) := by decide +kernel
theorem dL_law_137 : decode cL_law 137 = .ok (.iadd, 1) := by decide +kernel
theorem dL_law_138 : decode cL_law 138 = .ok (.iaload, 1) := by decide +kernel
theorem dL_law_139 : decode cL_law 139 = .ok (.aload_n 0, 1) := by decide +kernel
theorem dL_law_140 : decode cL_law 140 = .ok (.iload_n 3, 1) := by decide +kernel
theorem dL_law_141 : decode cL_law 141 = .ok (.iconst 2, 1) := by decide +kernel
theorem dL_law_142 : decode cL_law 142 = .ok (.iadd, 1) := by decide +kernel
theorem dL_law_143 : decode cL_law 143 = .ok (.iaload, 1) := by decide +kernel
theorem dL_law_144 : decode cL_law 144 = .ok (.invokevirtual 18, 3) := by decide +kernel
theorem dL_law_147 : decode cL_law 147 = .ok (.aload_n 2, 1) := by decide +kernel
theorem dL_law_148 : decode cL_law 148 = .ok (.aload_n 0, 1) := by decide +kernel
theorem dL_law_149 : decode cL_law 149 = .ok (.iload_n 3, 1) := by decide +kernel
theorem dL_law_150 : decode cL_law 150 = .ok (.iconst 1, 1) := by decide +kernel
theorem dL_law_151 : decode cL_law 151 = .ok (.iadd, 1) := by decide +kernel
theorem dL_law_152 : decode cL_law 152 = .ok (.iaload, 1) := by decide +kernel
theorem dL_law_153 : decode cL_law 153 = .ok (.aload_n 0, 1) := by decide +kernel
theorem dL_law_154 : decode cL_law 154 = .ok (.iload_n 3, 1) := by decide +kernel
theorem dL_law_155 : decode cL_law 155 = .ok (.iconst 2, 1) := by decide +kernel
theorem dL_law_156 : decode cL_law 156 = .ok (.iadd, 1) := by decide +kernel
theorem dL_law_157 : decode cL_law 157 = .ok (.iaload, 1) := by decide +kernel
theorem dL_law_158 : decode cL_law 158 = .ok (.invokevirtual 21, 3) := by decide +kernel
theorem dL_law_161 : decode cL_law 161 = .ok (.if_icmp .eq 408, 3) := by decide +kernel
theorem dL_law_164 : decode cL_law 164 = .ok (.iconst 0, 1) := by decide +kernel
theorem dL_law_165 : decode cL_law 165 = .ok (.ireturn, 1) := by decide +kernel
theorem dL_law_166 : decode cL_law 166 = .ok (.aload_n 1, 1) := by decide +kernel
theorem dL_law_167 : decode cL_law 167 = .ok (.aload_n 0, 1) := by decide +kernel
theorem dL_law_168 : decode cL_law 168 = .ok (.iload_n 3, 1) := by decide +kernel
theorem dL_law_169 : decode cL_law 169 = .ok (.iconst 1, 1) := by decide +kernel
theorem dL_law_170 : decode cL_law 170 = .ok (.iadd, 1) := by decide +kernel
theorem dL_law_171 : decode cL_law 171 = .ok (.iaload, 1) := by decide +kernel
theorem dL_law_172 : decode cL_law 172 = .ok (.invokevirtual 22, 3) := by decide +kernel
theorem dL_law_175 : decode cL_law 175 = .ok (.aload_n 2, 1) := by decide +kernel
theorem dL_law_176 : decode cL_law 176 = .ok (.aload_n 0, 1) := by decide +kernel
theorem dL_law_177 : decode cL_law 177 = .ok (.iload_n 3, 1) := by decide +kernel
theorem dL_law_178 : decode cL_law 178 = .ok (.iconst 1, 1) := by decide +kernel
theorem dL_law_179 : decode cL_law 179 = .ok (.iadd, 1) := by decide +kernel
theorem dL_law_180 : decode cL_law 180 = .ok (.iaload, 1) := by decide +kernel
theorem dL_law_181 : decode cL_law 181 = .ok (.invokevirtual 26, 3) := by decide +kernel
theorem dL_law_184 : decode cL_law 184 = .ok (.if_icmp .eq 385, 3) := by decide +kernel
theorem dL_law_187 : decode cL_law 187 = .ok (.iconst 0, 1) := by decide +kernel
theorem dL_law_188 : decode cL_law 188 = .ok (.ireturn, 1) := by decide +kernel
theorem dL_law_189 : decode cL_law 189 = .ok (.aload_n 1, 1) := by decide +kernel
theorem dL_law_190 : decode cL_law 190 = .ok (.aload_n 0, 1) := by decide +kernel
theorem dL_law_191 : decode cL_law 191 = .ok (.iload_n 3, 1) := by decide +kernel
theorem dL_law_192 : decode cL_law 192 = .ok (.iconst 1, 1) := by decide +kernel
theorem dL_law_193 : decode cL_law 193 = .ok (.iadd, 1) := by decide +kernel
theorem dL_law_194 : decode cL_law 194 = .ok (.iaload, 1) := by decide +kernel
theorem dL_law_195 : decode cL_law 195 = .ok (.aload_n 0, 1) := by decide +kernel
theorem dL_law_196 : decode cL_law 196 = .ok (.iload_n 3, 1) := by decide +kernel
theorem dL_law_197 : decode cL_law 197 = .ok (.iconst 2, 1) := by decide +kernel
theorem dL_law_198 : decode cL_law 198 = .ok (.iadd, 1) := by decide +kernel
theorem dL_law_199 : decode cL_law 199 = .ok (.iaload, 1) := by decide +kernel
theorem dL_law_200 : decode cL_law 200 = .ok (.invokevirtual 27, 3) := by decide +kernel
theorem dL_law_203 : decode cL_law 203 = .ok (.aload_n 2, 1) := by decide +kernel
theorem dL_law_204 : decode cL_law 204 = .ok (.aload_n 0, 1) := by decide +kernel
theorem dL_law_205 : decode cL_law 205 = .ok (.iload_n 3, 1) := by decide +kernel
theorem dL_law_206 : decode cL_law 206 = .ok (.iconst 1, 1) := by decide +kernel
theorem dL_law_207 : decode cL_law 207 = .ok (.iadd, 1) := by decide +kernel
theorem dL_law_208 : decode cL_law 208 = .ok (.iaload, 1) := by decide +kernel
theorem dL_law_209 : decode cL_law 209 = .ok (.aload_n 0, 1) := by decide +kernel
theorem dL_law_210 : decode cL_law 210 = .ok (.iload_n 3, 1) := by decide +kernel
theorem dL_law_211 : decode cL_law 211 = .ok (.iconst 2, 1) := by decide +kernel
theorem dL_law_212 : decode cL_law 212 = .ok (.iadd, 1) := by decide +kernel
theorem dL_law_213 : decode cL_law 213 = .ok (.iaload, 1) := by decide +kernel
theorem dL_law_214 : decode cL_law 214 = .ok (.invokevirtual 30, 3) := by decide +kernel
theorem dL_law_217 : decode cL_law 217 = .ok (.if_icmp .eq 352, 3) := by decide +kernel
theorem dL_law_220 : decode cL_law 220 = .ok (.iconst 0, 1) := by decide +kernel
theorem dL_law_221 : decode cL_law 221 = .ok (.ireturn, 1) := by decide +kernel
theorem dL_law_222 : decode cL_law 222 = .ok (.aload_n 1, 1) := by decide +kernel
theorem dL_law_223 : decode cL_law 223 = .ok (.aload_n 0, 1) := by decide +kernel
theorem dL_law_224 : decode cL_law 224 = .ok (.iload_n 3, 1) := by decide +kernel
theorem dL_law_225 : decode cL_law 225 = .ok (.iconst 1, 1) := by decide +kernel
theorem dL_law_226 : decode cL_law 226 = .ok (.iadd, 1) := by decide +kernel
theorem dL_law_227 : decode cL_law 227 = .ok (.iaload, 1) := by decide +kernel
theorem dL_law_228 : decode cL_law 228 = .ok (.aload_n 0, 1) := by decide +kernel
theorem dL_law_229 : decode cL_law 229 = .ok (.iload_n 3, 1) := by decide +kernel
theorem dL_law_230 : decode cL_law 230 = .ok (.iconst 2, 1) := by decide +kernel
theorem dL_law_231 : decode cL_law 231 = .ok (.iadd, 1) := by decide +kernel
theorem dL_law_232 : decode cL_law 232 = .ok (.iaload, 1) := by decide +kernel
theorem dL_law_233 : decode cL_law 233 = .ok (.aload_n 0, 1) := by decide +kernel
theorem dL_law_234 : decode cL_law 234 = .ok (.iload_n 3, 1) := by decide +kernel
theorem dL_law_235 : decode cL_law 235 = .ok (.iconst 3, 1) := by decide +kernel
theorem dL_law_236 : decode cL_law 236 = .ok (.iadd, 1) := by decide +kernel
theorem dL_law_237 : decode cL_law 237 = .ok (.iaload, 1) := by decide +kernel
theorem dL_law_238 : decode cL_law 238 = .ok (.invokevirtual 31, 3) := by decide +kernel
theorem dL_law_241 : decode cL_law 241 = .ok (.aload_n 2, 1) := by decide +kernel
theorem dL_law_242 : decode cL_law 242 = .ok (.aload_n 0, 1) := by decide +kernel
theorem dL_law_243 : decode cL_law 243 = .ok (.iload_n 3, 1) := by decide +kernel
theorem dL_law_244 : decode cL_law 244 = .ok (.iconst 1, 1) := by decide +kernel
theorem dL_law_245 : decode cL_law 245 = .ok (.iadd, 1) := by decide +kernel
theorem dL_law_246 : decode cL_law 246 = .ok (.iaload, 1) := by decide +kernel
theorem dL_law_247 : decode cL_law 247 = .ok (.aload_n 0, 1) := by decide +kernel
theorem dL_law_248 : decode cL_law 248 = .ok (.iload_n 3, 1) := by decide +kernel
theorem dL_law_249 : decode cL_law 249 = .ok (.iconst 2, 1) := by decide +kernel
theorem dL_law_250 : decode cL_law 250 = .ok (.iadd, 1) := by decide +kernel
theorem dL_law_251 : decode cL_law 251 = .ok (.iaload, 1) := by decide +kernel
theorem dL_law_252 : decode cL_law 252 = .ok (.aload_n 0, 1) := by decide +kernel
theorem dL_law_253 : decode cL_law 253 = .ok (.iload_n 3, 1) := by decide +kernel
theorem dL_law_254 : decode cL_law 254 = .ok (.iconst 3, 1) := by decide +kernel
theorem dL_law_255 : decode cL_law 255 = .ok (.iadd, 1) := by decide +kernel
theorem dL_law_256 : decode cL_law 256 = .ok (.iaload, 1) := by decide +kernel
theorem dL_law_257 : decode cL_law 257 = .ok (.invokevirtual 35, 3) := by decide +kernel
theorem dL_law_260 : decode cL_law 260 = .ok (.if_icmp .eq 309, 3) := by decide +kernel
theorem dL_law_263 : decode cL_law 263 = .ok (.iconst 0, 1) := by decide +kernel
theorem dL_law_264 : decode cL_law 264 = .ok (.ireturn, 1) := by decide +kernel
theorem dL_law_265 : decode cL_law 265 = .ok (.aload_n 1, 1) := by decide +kernel
theorem dL_law_266 : decode cL_law 266 = .ok (.aload_n 0, 1) := by decide +kernel
theorem dL_law_267 : decode cL_law 267 = .ok (.iload_n 3, 1) := by decide +kernel
theorem dL_law_268 : decode cL_law 268 = .ok (.iconst 1, 1) := by decide +kernel
theorem dL_law_269 : decode cL_law 269 = .ok (.iadd, 1) := by decide +kernel
theorem dL_law_270 : decode cL_law 270 = .ok (.iaload, 1) := by decide +kernel
theorem dL_law_271 : decode cL_law 271 = .ok (.aload_n 0, 1) := by decide +kernel
theorem dL_law_272 : decode cL_law 272 = .ok (.iload_n 3, 1) := by decide +kernel
theorem dL_law_273 : decode cL_law 273 = .ok (.iconst 2, 1) := by decide +kernel
theorem dL_law_274 : decode cL_law 274 = .ok (.iadd, 1) := by decide +kernel
theorem dL_law_275 : decode cL_law 275 = .ok (.iaload, 1) := by decide +kernel
theorem dL_law_276 : decode cL_law 276 = .ok (.invokevirtual 36, 3) := by decide +kernel
theorem dL_law_279 : decode cL_law 279 = .ok (.aload_n 2, 1) := by decide +kernel
theorem dL_law_280 : decode cL_law 280 = .ok (.aload_n 0, 1) := by decide +kernel
theorem dL_law_281 : decode cL_law 281 = .ok (.iload_n 3, 1) := by decide +kernel
theorem dL_law_282 : decode cL_law 282 = .ok (.iconst 1, 1) := by decide +kernel
theorem dL_law_283 : decode cL_law 283 = .ok (.iadd, 1) := by decide +kernel
theorem dL_law_284 : decode cL_law 284 = .ok (.iaload, 1) := by decide +kernel
theorem dL_law_285 : decode cL_law 285 = .ok (.aload_n 0, 1) := by decide +kernel
theorem dL_law_286 : decode cL_law 286 = .ok (.iload_n 3, 1) := by decide +kernel
theorem dL_law_287 : decode cL_law 287 = .ok (.iconst 2, 1) := by decide +kernel
theorem dL_law_288 : decode cL_law 288 = .ok (.iadd, 1) := by decide +kernel
theorem dL_law_289 : decode cL_law 289 = .ok (.iaload, 1) := by decide +kernel
theorem dL_law_290 : decode cL_law 290 = .ok (.invokevirtual 39, 3) := by decide +kernel
theorem dL_law_293 : decode cL_law 293 = .ok (.if_icmp .eq 276, 3) := by decide +kernel
theorem dL_law_296 : decode cL_law 296 = .ok (.iconst 0, 1) := by decide +kernel
theorem dL_law_297 : decode cL_law 297 = .ok (.ireturn, 1) := by decide +kernel
theorem dL_law_298 : decode cL_law 298 = .ok (.aload_n 1, 1) := by decide +kernel
theorem dL_law_299 : decode cL_law 299 = .ok (.aload_n 0, 1) := by decide +kernel
theorem dL_law_300 : decode cL_law 300 = .ok (.iload_n 3, 1) := by decide +kernel
theorem dL_law_301 : decode cL_law 301 = .ok (.iconst 1, 1) := by decide +kernel
theorem dL_law_302 : decode cL_law 302 = .ok (.iadd, 1) := by decide +kernel
theorem dL_law_303 : decode cL_law 303 = .ok (.iaload, 1) := by decide +kernel
theorem dL_law_304 : decode cL_law 304 = .ok (.aload_n 0, 1) := by decide +kernel
theorem dL_law_305 : decode cL_law 305 = .ok (.iload_n 3, 1) := by decide +kernel
theorem dL_law_306 : decode cL_law 306 = .ok (.iconst 2, 1) := by decide +kernel
theorem dL_law_307 : decode cL_law 307 = .ok (.iadd, 1) := by decide +kernel
theorem dL_law_308 : decode cL_law 308 = .ok (.iaload, 1) := by decide +kernel
theorem dL_law_309 : decode cL_law 309 = .ok (.invokevirtual 40, 3) := by decide +kernel
theorem dL_law_312 : decode cL_law 312 = .ok (.aload_n 2, 1) := by decide +kernel
theorem dL_law_313 : decode cL_law 313 = .ok (.aload_n 0, 1) := by decide +kernel
theorem dL_law_314 : decode cL_law 314 = .ok (.iload_n 3, 1) := by decide +kernel
theorem dL_law_315 : decode cL_law 315 = .ok (.iconst 1, 1) := by decide +kernel
theorem dL_law_316 : decode cL_law 316 = .ok (.iadd, 1) := by decide +kernel
theorem dL_law_317 : decode cL_law 317 = .ok (.iaload, 1) := by decide +kernel
theorem dL_law_318 : decode cL_law 318 = .ok (.aload_n 0, 1) := by decide +kernel
theorem dL_law_319 : decode cL_law 319 = .ok (.iload_n 3, 1) := by decide +kernel
theorem dL_law_320 : decode cL_law 320 = .ok (.iconst 2, 1) := by decide +kernel
theorem dL_law_321 : decode cL_law 321 = .ok (.iadd, 1) := by decide +kernel
theorem dL_law_322 : decode cL_law 322 = .ok (.iaload, 1) := by decide +kernel
theorem dL_law_323 : decode cL_law 323 = .ok (.invokevirtual 43, 3) := by decide +kernel
theorem dL_law_326 : decode cL_law 326 = .ok (.if_icmp .eq 243, 3) := by decide +kernel
theorem dL_law_329 : decode cL_law 329 = .ok (.iconst 0, 1) := by decide +kernel
theorem dL_law_330 : decode cL_law 330 = .ok (.ireturn, 1) := by decide +kernel
theorem dL_law_331 : decode cL_law 331 = .ok (.aload_n 1, 1) := by decide +kernel
theorem dL_law_332 : decode cL_law 332 = .ok (.aload_n 0, 1) := by decide +kernel
theorem dL_law_333 : decode cL_law 333 = .ok (.iload_n 3, 1) := by decide +kernel
theorem dL_law_334 : decode cL_law 334 = .ok (.iconst 1, 1) := by decide +kernel
theorem dL_law_335 : decode cL_law 335 = .ok (.iadd, 1) := by decide +kernel
theorem dL_law_336 : decode cL_law 336 = .ok (.iaload, 1) := by decide +kernel
theorem dL_law_337 : decode cL_law 337 = .ok (.aload_n 0, 1) := by decide +kernel
theorem dL_law_338 : decode cL_law 338 = .ok (.iload_n 3, 1) := by decide +kernel
theorem dL_law_339 : decode cL_law 339 = .ok (.iconst 2, 1) := by decide +kernel
theorem dL_law_340 : decode cL_law 340 = .ok (.iadd, 1) := by decide +kernel
theorem dL_law_341 : decode cL_law 341 = .ok (.iaload, 1) := by decide +kernel
theorem dL_law_342 : decode cL_law 342 = .ok (.invokevirtual 44, 3) := by decide +kernel
theorem dL_law_345 : decode cL_law 345 = .ok (.aload_n 2, 1) := by decide +kernel
theorem dL_law_346 : decode cL_law 346 = .ok (.aload_n 0, 1) := by decide +kernel
theorem dL_law_347 : decode cL_law 347 = .ok (.iload_n 3, 1) := by decide +kernel
theorem dL_law_348 : decode cL_law 348 = .ok (.iconst 1, 1) := by decide +kernel
theorem dL_law_349 : decode cL_law 349 = .ok (.iadd, 1) := by decide +kernel
theorem dL_law_350 : decode cL_law 350 = .ok (.iaload, 1) := by decide +kernel
theorem dL_law_351 : decode cL_law 351 = .ok (.aload_n 0, 1) := by decide +kernel
theorem dL_law_352 : decode cL_law 352 = .ok (.iload_n 3, 1) := by decide +kernel
theorem dL_law_353 : decode cL_law 353 = .ok (.iconst 2, 1) := by decide +kernel
theorem dL_law_354 : decode cL_law 354 = .ok (.iadd, 1) := by decide +kernel
theorem dL_law_355 : decode cL_law 355 = .ok (.iaload, 1) := by decide +kernel
theorem dL_law_356 : decode cL_law 356 = .ok (.invokevirtual 47, 3) := by decide +kernel
theorem dL_law_359 : decode cL_law 359 = .ok (.if_icmp .eq 210, 3) := by decide +kernel
theorem dL_law_362 : decode cL_law 362 = .ok (.iconst 0, 1) := by decide +kernel
theorem dL_law_363 : decode cL_law 363 = .ok (.ireturn, 1) := by decide +kernel
theorem dL_law_364 : decode cL_law 364 = .ok (.aload_n 1, 1) := by decide +kernel
theorem dL_law_365 : decode cL_law 365 = .ok (.aload_n 0, 1) := by decide +kernel
theorem dL_law_366 : decode cL_law 366 = .ok (.iload_n 3, 1) := by decide +kernel
theorem dL_law_367 : decode cL_law 367 = .ok (.iconst 1, 1) := by decide +kernel
theorem dL_law_368 : decode cL_law 368 = .ok (.iadd, 1) := by decide +kernel
theorem dL_law_369 : decode cL_law 369 = .ok (.iaload, 1) := by decide +kernel
theorem dL_law_370 : decode cL_law 370 = .ok (.aload_n 0, 1) := by decide +kernel
theorem dL_law_371 : decode cL_law 371 = .ok (.iload_n 3, 1) := by decide +kernel
theorem dL_law_372 : decode cL_law 372 = .ok (.iconst 2, 1) := by decide +kernel
theorem dL_law_373 : decode cL_law 373 = .ok (.iadd, 1) := by decide +kernel
theorem dL_law_374 : decode cL_law 374 = .ok (.iaload, 1) := by decide +kernel
theorem dL_law_375 : decode cL_law 375 = .ok (.aload_n 0, 1) := by decide +kernel
theorem dL_law_376 : decode cL_law 376 = .ok (.iload_n 3, 1) := by decide +kernel
theorem dL_law_377 : decode cL_law 377 = .ok (.iconst 3, 1) := by decide +kernel
theorem dL_law_378 : decode cL_law 378 = .ok (.iadd, 1) := by decide +kernel
theorem dL_law_379 : decode cL_law 379 = .ok (.iaload, 1) := by decide +kernel
theorem dL_law_380 : decode cL_law 380 = .ok (.invokevirtual 48, 3) := by decide +kernel
theorem dL_law_383 : decode cL_law 383 = .ok (.aload_n 2, 1) := by decide +kernel
theorem dL_law_384 : decode cL_law 384 = .ok (.aload_n 0, 1) := by decide +kernel
theorem dL_law_385 : decode cL_law 385 = .ok (.iload_n 3, 1) := by decide +kernel
theorem dL_law_386 : decode cL_law 386 = .ok (.iconst 1, 1) := by decide +kernel
theorem dL_law_387 : decode cL_law 387 = .ok (.iadd, 1) := by decide +kernel
theorem dL_law_388 : decode cL_law 388 = .ok (.iaload, 1) := by decide +kernel
theorem dL_law_389 : decode cL_law 389 = .ok (.aload_n 0, 1) := by decide +kernel
theorem dL_law_390 : decode cL_law 390 = .ok (.iload_n 3, 1) := by decide +kernel
theorem dL_law_391 : decode cL_law 391 = .ok (.iconst 2, 1) := by decide +kernel
theorem dL_law_392 : decode cL_law 392 = .ok (.iadd, 1) := by decide +kernel
theorem dL_law_393 : decode cL_law 393 = .ok (.iaload, 1) := by decide +kernel
theorem dL_law_394 : decode cL_law 394 = .ok (.aload_n 0, 1) := by decide +kernel
theorem dL_law_395 : decode cL_law 395 = .ok (.iload_n 3, 1) := by decide +kernel
theorem dL_law_396 : decode cL_law 396 = .ok (.iconst 3, 1) := by decide +kernel
theorem dL_law_397 : decode cL_law 397 = .ok (.iadd, 1) := by decide +kernel
theorem dL_law_398 : decode cL_law 398 = .ok (.iaload, 1) := by decide +kernel
theorem dL_law_399 : decode cL_law 399 = .ok (.invokevirtual 51, 3) := by decide +kernel
theorem dL_law_402 : decode cL_law 402 = .ok (.if_icmp .eq 167, 3) := by decide +kernel
theorem dL_law_405 : decode cL_law 405 = .ok (.iconst 0, 1) := by decide +kernel
theorem dL_law_406 : decode cL_law 406 = .ok (.ireturn, 1) := by decide +kernel
theorem dL_law_407 : decode cL_law 407 = .ok (.aload_n 1, 1) := by decide +kernel
theorem dL_law_408 : decode cL_law 408 = .ok (.aload_n 0, 1) := by decide +kernel
theorem dL_law_409 : decode cL_law 409 = .ok (.iload_n 3, 1) := by decide +kernel
theorem dL_law_410 : decode cL_law 410 = .ok (.iconst 1, 1) := by decide +kernel
theorem dL_law_411 : decode cL_law 411 = .ok (.iadd, 1) := by decide +kernel
theorem dL_law_412 : decode cL_law 412 = .ok (.iaload, 1) := by decide +kernel
theorem dL_law_413 : decode cL_law 413 = .ok (.aload_n 0, 1) := by decide +kernel
theorem dL_law_414 : decode cL_law 414 = .ok (.iload_n 3, 1) := by decide +kernel
theorem dL_law_415 : decode cL_law 415 = .ok (.iconst 2, 1) := by decide +kernel
theorem dL_law_416 : decode cL_law 416 = .ok (.iadd, 1) := by decide +kernel
theorem dL_law_417 : decode cL_law 417 = .ok (.iaload, 1) := by decide +kernel
theorem dL_law_418 : decode cL_law 418 = .ok (.aload_n 0, 1) := by decide +kernel
theorem dL_law_419 : decode cL_law 419 = .ok (.iload_n 3, 1) := by decide +kernel
theorem dL_law_420 : decode cL_law 420 = .ok (.iconst 3, 1) := by decide +kernel
theorem dL_law_421 : decode cL_law 421 = .ok (.iadd, 1) := by decide +kernel
theorem dL_law_422 : decode cL_law 422 = .ok (.iaload, 1) := by decide +kernel
theorem dL_law_423 : decode cL_law 423 = .ok (.invokevirtual 52, 3) := by decide +kernel
theorem dL_law_426 : decode cL_law 426 = .ok (.aload_n 2, 1) := by decide +kernel
theorem dL_law_427 : decode cL_law 427 = .ok (.aload_n 0, 1) := by decide +kernel
theorem dL_law_428 : decode cL_law 428 = .ok (.iload_n 3, 1) := by decide +kernel
theorem dL_law_429 : decode cL_law 429 = .ok (.iconst 1, 1) := by decide +kernel
theorem dL_law_430 : decode cL_law 430 = .ok (.iadd, 1) := by decide +kernel
theorem dL_law_431 : decode cL_law 431 = .ok (.iaload, 1) := by decide +kernel
theorem dL_law_432 : decode cL_law 432 = .ok (.aload_n 0, 1) := by decide +kernel
theorem dL_law_433 : decode cL_law 433 = .ok (.iload_n 3, 1) := by decide +kernel
theorem dL_law_434 : decode cL_law 434 = .ok (.iconst 2, 1) := by decide +kernel
theorem dL_law_435 : decode cL_law 435 = .ok (.iadd, 1) := by decide +kernel
theorem dL_law_436 : decode cL_law 436 = .ok (.iaload, 1) := by decide +kernel
theorem dL_law_437 : decode cL_law 437 = .ok (.aload_n 0, 1) := by decide +kernel
theorem dL_law_438 : decode cL_law 438 = .ok (.iload_n 3, 1) := by decide +kernel
theorem dL_law_439 : decode cL_law 439 = .ok (.iconst 3, 1) := by decide +kernel
theorem dL_law_440 : decode cL_law 440 = .ok (.iadd, 1) := by decide +kernel
theorem dL_law_441 : decode cL_law 441 = .ok (.iaload, 1) := by decide +kernel
theorem dL_law_442 : decode cL_law 442 = .ok (.invokevirtual 55, 3) := by decide +kernel
theorem dL_law_445 : decode cL_law 445 = .ok (.if_icmp .eq 124, 3) := by decide +kernel
theorem dL_law_448 : decode cL_law 448 = .ok (.iconst 0, 1) := by decide +kernel
theorem dL_law_449 : decode cL_law 449 = .ok (.ireturn, 1) := by decide +kernel
theorem dL_law_450 : decode cL_law 450 = .ok (.aload_n 1, 1) := by decide +kernel
theorem dL_law_451 : decode cL_law 451 = .ok (.aload_n 0, 1) := by decide +kernel
theorem dL_law_452 : decode cL_law 452 = .ok (.iload_n 3, 1) := by decide +kernel
theorem dL_law_453 : decode cL_law 453 = .ok (.iconst 1, 1) := by decide +kernel
theorem dL_law_454 : decode cL_law 454 = .ok (.iadd, 1) := by decide +kernel
theorem dL_law_455 : decode cL_law 455 = .ok (.iaload, 1) := by decide +kernel
theorem dL_law_456 : decode cL_law 456 = .ok (.aload_n 0, 1) := by decide +kernel
theorem dL_law_457 : decode cL_law 457 = .ok (.iload_n 3, 1) := by decide +kernel
theorem dL_law_458 : decode cL_law 458 = .ok (.iconst 2, 1) := by decide +kernel
theorem dL_law_459 : decode cL_law 459 = .ok (.iadd, 1) := by decide +kernel
theorem dL_law_460 : decode cL_law 460 = .ok (.iaload, 1) := by decide +kernel
theorem dL_law_461 : decode cL_law 461 = .ok (.aload_n 0, 1) := by decide +kernel
theorem dL_law_462 : decode cL_law 462 = .ok (.iload_n 3, 1) := by decide +kernel
theorem dL_law_463 : decode cL_law 463 = .ok (.iconst 3, 1) := by decide +kernel
theorem dL_law_464 : decode cL_law 464 = .ok (.iadd, 1) := by decide +kernel
theorem dL_law_465 : decode cL_law 465 = .ok (.iaload, 1) := by decide +kernel
theorem dL_law_466 : decode cL_law 466 = .ok (.invokevirtual 56, 3) := by decide +kernel
theorem dL_law_469 : decode cL_law 469 = .ok (.aload_n 2, 1) := by decide +kernel
theorem dL_law_470 : decode cL_law 470 = .ok (.aload_n 0, 1) := by decide +kernel
theorem dL_law_471 : decode cL_law 471 = .ok (.iload_n 3, 1) := by decide +kernel
theorem dL_law_472 : decode cL_law 472 = .ok (.iconst 1, 1) := by decide +kernel
theorem dL_law_473 : decode cL_law 473 = .ok (.iadd, 1) := by decide +kernel
theorem dL_law_474 : decode cL_law 474 = .ok (.iaload, 1) := by decide +kernel
theorem dL_law_475 : decode cL_law 475 = .ok (.aload_n 0, 1) := by decide +kernel
theorem dL_law_476 : decode cL_law 476 = .ok (.iload_n 3, 1) := by decide +kernel
theorem dL_law_477 : decode cL_law 477 = .ok (.iconst 2, 1) := by decide +kernel
theorem dL_law_478 : decode cL_law 478 = .ok (.iadd, 1) := by decide +kernel
theorem dL_law_479 : decode cL_law 479 = .ok (.iaload, 1) := by decide +kernel
theorem dL_law_480 : decode cL_law 480 = .ok (.aload_n 0, 1) := by decide +kernel
theorem dL_law_481 : decode cL_law 481 = .ok (.iload_n 3, 1) := by decide +kernel
theorem dL_law_482 : decode cL_law 482 = .ok (.iconst 3, 1) := by decide +kernel
theorem dL_law_483 : decode cL_law 483 = .ok (.iadd, 1) := by decide +kernel
theorem dL_law_484 : decode cL_law 484 = .ok (.iaload, 1) := by decide +kernel
theorem dL_law_485 : decode cL_law 485 = .ok (.invokevirtual 59, 3) := by decide +kernel
theorem dL_law_488 : decode cL_law 488 = .ok (.if_icmp .eq 81, 3) := by decide +kernel
theorem dL_law_491 : decode cL_law 491 = .ok (.iconst 0, 1) := by decide +kernel
theorem dL_law_492 : decode cL_law 492 = .ok (.ireturn, 1) := by decide +kernel
theorem dL_law_493 : decode cL_law 493 = .ok (.aload_n 1, 1) := by decide +kernel
theorem dL_law_494 : decode cL_law 494 = .ok (.aload_n 0, 1) := by decide +kernel
theorem dL_law_495 : decode cL_law 495 = .ok (.iload_n 3, 1) := by decide +kernel
theorem dL_law_496 : decode cL_law 496 = .ok (.iconst 1, 1) := by decide +kernel
theorem dL_law_497 : decode cL_law 497 = .ok (.iadd, 1) := by decide +kernel
theorem dL_law_498 : decode cL_law 498 = .ok (.iaload, 1) := by decide +kernel
theorem dL_law_499 : decode cL_law 499 = .ok (.aload_n 0, 1) := by decide +kernel
theorem dL_law_500 : decode cL_law 500 = .ok (.iload_n 3, 1) := by decide +kernel
theorem dL_law_501 : decode cL_law 501 = .ok (.iconst 2, 1) := by decide +kernel
theorem dL_law_502 : decode cL_law 502 = .ok (.iadd, 1) := by decide +kernel
theorem dL_law_503 : decode cL_law 503 = .ok (.iaload, 1) := by decide +kernel
theorem dL_law_504 : decode cL_law 504 = .ok (.aload_n 0, 1) := by decide +kernel
theorem dL_law_505 : decode cL_law 505 = .ok (.iload_n 3, 1) := by decide +kernel
theorem dL_law_506 : decode cL_law 506 = .ok (.iconst 3, 1) := by decide +kernel
theorem dL_law_507 : decode cL_law 507 = .ok (.iadd, 1) := by decide +kernel
theorem dL_law_508 : decode cL_law 508 = .ok (.iaload, 1) := by decide +kernel
theorem dL_law_509 : decode cL_law 509 = .ok (.invokevirtual 60, 3) := by decide +kernel
theorem dL_law_512 : decode cL_law 512 = .ok (.aload_n 2, 1) := by decide +kernel
theorem dL_law_513 : decode cL_law 513 = .ok (.aload_n 0, 1) := by decide +kernel
theorem dL_law_514 : decode cL_law 514 = .ok (.iload_n 3, 1) := by decide +kernel
theorem dL_law_515 : decode cL_law 515 = .ok (.iconst 1, 1) := by decide +kernel
theorem dL_law_516 : decode cL_law 516 = .ok (.iadd, 1) := by decide +kernel
theorem dL_law_517 : decode cL_law 517 = .ok (.iaload, 1) := by decide +kernel
theorem dL_law_518 : decode cL_law 518 = .ok (.aload_n 0, 1) := by decide +kernel
theorem dL_law_519 : decode cL_law 519 = .ok (.iload_n 3, 1) := by decide +kernel
theorem dL_law_520 : decode cL_law 520 = .ok (.iconst 2, 1) := by decide +kernel
theorem dL_law_521 : decode cL_law 521 = .ok (.iadd, 1) := by decide +kernel
theorem dL_law_522 : decode cL_law 522 = .ok (.iaload, 1) := by decide +kernel
theorem dL_law_523 : decode cL_law 523 = .ok (.aload_n 0, 1) := by decide +kernel
theorem dL_law_524 : decode cL_law 524 = .ok (.iload_n 3, 1) := by decide +kernel
theorem dL_law_525 : decode cL_law 525 = .ok (.iconst 3, 1) := by decide +kernel
theorem dL_law_526 : decode cL_law 526 = .ok (.iadd, 1) := by decide +kernel
theorem dL_law_527 : decode cL_law 527 = .ok (.iaload, 1) := by decide +kernel
theorem dL_law_528 : decode cL_law 528 = .ok (.invokevirtual 63, 3) := by decide +kernel
theorem dL_law_531 : decode cL_law 531 = .ok (.if_icmp .eq 38, 3) := by decide +kernel
theorem dL_law_534 : decode cL_law 534 = .ok (.iconst 0, 1) := by decide +kernel
theorem dL_law_535 : decode cL_law 535 = .ok (.ireturn, 1) := by decide +kernel
theorem dL_law_536 : decode cL_law 536 = .ok (.aload_n 1, 1) := by decide +kernel
theorem dL_law_537 : decode cL_law 537 = .ok (.aload_n 0, 1) := by decide +kernel
theorem dL_law_538 : decode cL_law 538 = .ok (.iload_n 3, 1) := by decide +kernel
theorem dL_law_539 : decode cL_law 539 = .ok (.iconst 1, 1) := by decide +kernel
theorem dL_law_540 : decode cL_law 540 = .ok (.iadd, 1) := by decide +kernel
theorem dL_law_541 : decode cL_law 541 = .ok (.iaload, 1) := by decide +kernel
theorem dL_law_542 : decode cL_law 542 = .ok (.aload_n 0, 1) := by decide +kernel
theorem dL_law_543 : decode cL_law 543 = .ok (.iload_n 3, 1) := by decide +kernel
theorem dL_law_544 : decode cL_law 544 = .ok (.iconst 2, 1) := by decide +kernel
theorem dL_law_545 : decode cL_law 545 = .ok (.iadd, 1) := by decide +kernel
theorem dL_law_546 : decode cL_law 546 = .ok (.iaload, 1) := by decide +kernel
theorem dL_law_547 : decode cL_law 547 = .ok (.invokevirtual 64, 3) := by decide +kernel
theorem dL_law_550 : decode cL_law 550 = .ok (.aload_n 2, 1) := by decide +kernel
theorem dL_law_551 : decode cL_law 551 = .ok (.aload_n 0, 1) := by decide +kernel
theorem dL_law_552 : decode cL_law 552 = .ok (.iload_n 3, 1) := by decide +kernel
theorem dL_law_553 : decode cL_law 553 = .ok (.iconst 1, 1) := by decide +kernel
theorem dL_law_554 : decode cL_law 554 = .ok (.iadd, 1) := by decide +kernel
theorem dL_law_555 : decode cL_law 555 = .ok (.iaload, 1) := by decide +kernel
theorem dL_law_556 : decode cL_law 556 = .ok (.aload_n 0, 1) := by decide +kernel
theorem dL_law_557 : decode cL_law 557 = .ok (.iload_n 3, 1) := by decide +kernel
theorem dL_law_558 : decode cL_law 558 = .ok (.iconst 2, 1) := by decide +kernel
theorem dL_law_559 : decode cL_law 559 = .ok (.iadd, 1) := by decide +kernel
theorem dL_law_560 : decode cL_law 560 = .ok (.iaload, 1) := by decide +kernel
theorem dL_law_561 : decode cL_law 561 = .ok (.invokevirtual 67, 3) := by decide +kernel
theorem dL_law_564 : decode cL_law 564 = .ok (.if_icmp .eq 5, 3) := by decide +kernel
theorem dL_law_567 : decode cL_law 567 = .ok (.iconst 0, 1) := by decide +kernel
theorem dL_law_568 : decode cL_law 568 = .ok (.ireturn, 1) := by decide +kernel
theorem dL_law_569 : decode cL_law 569 = .ok (.iinc 3 4, 3) := by decide +kernel
theorem dL_law_572 : decode cL_law 572 = .ok (.goto (-554), 3) := by decide +kernel
theorem dL_law_575 : decode cL_law 575 = .ok (.iconst 1, 1) := by decide +kernel
theorem dL_law_576 : decode cL_law 576 = .ok (.ireturn, 1) := by decide +kernel
end
section
set_option maxRecDepth 100000
theorem tyL_eq {D : va_G} {dA : Bool → ClassId} {s : State} {c : ClassId} {ty : FieldType} (b : Bool) (h : va_K D xCl (tyL dA ++ [(c, ty)]) s) (hty : ty = if b = true then .boolean else .int) : c = dA b := by
  subst hty
  cases b with
  | false =>
    have h1 : s.vm.findClass ("[" ++ FieldType.int.toString) = some c := (h.2 2 _ rfl).2
    have h2 : s.vm.findClass ("[" ++ FieldType.int.toString) = some (dA false) := (h.2 0 _ rfl).2
    exact Option.some.inj (h1.symm.trans h2)
  | true =>
    have h1 : s.vm.findClass ("[" ++ FieldType.boolean.toString) = some c := (h.2 2 _ rfl).2
    have h2 : s.vm.findClass ("[" ++ FieldType.boolean.toString) = some (dA true) := (h.2 1 _ rfl).2
    exact Option.some.inj (h1.symm.trans h2)
set_option maxHeartbeats 8000000 in
theorem tX0_init (l : Launch) (D : va_G) (dA : Bool → ClassId) (h sz : Nat) : Met l yX0_init (ws_ yX0_init cX0_init 1 none) ({ frames := 1, cells := 12, slots := 126, locals := 12 }) (va_Pc [.ref h] (fun U => U.heap.size = sz ∧ va_P D xCl [(h, .inr (0, [.null, .null, .null, .null, .null, .null, .null, .null, .null, .null, .null, .null, vI 0, vI 0]))] U.heap ∧ va_K D xCl (tyL dA) U ∧ va_D (fun _ => True) [(h, .inr (0, [.null, .null, .null, .null, .null, .null, .null, .null, .null, .null, .null, .null, vI 0, vI 0]))])) (va_Qv (fun _ : Nat → Nat => True) (fun q t => va_P D xCl (xw 0 dA h q (fun _ _ => 0, [0, 0])) t.heap ∧ va_K D xCl (tyL dA) t ∧ va_D (va_A [(h, .inr (0, [.null, .null, .null, .null, .null, .null, .null, .null, .null, .null, .null, .null, vI 0, vI 0]))] sz) (xw 0 dA h q (fun _ _ => 0, [0, 0]))) (va_A [(h, .inr (0, [.null, .null, .null, .null, .null, .null, .null, .null, .null, .null, .null, .null, vI 0, vI 0]))] sz)) 12 126 (va_A [(h, .inr (0, [.null, .null, .null, .null, .null, .null, .null, .null, .null, .null, .null, .null, vI 0, vI 0]))] sz) := by
  refine Met.ofW (cc := cX0_init) (maxL := 1) (ret := none) (by decide +kernel) rfl ?_
  intro p e s m args below meth c s₁ B hml hv
  obtain ⟨rfl, hsz, hP, hK, hD0⟩ := hv
  have hx := B.exec
  have hb := B.bytes
  have hr := B.returns
  have hts := atoms_spec (ws := ws_ yX0_init cX0_init 1 none) B.pre
  have hts : ∀ w ∈ lw_all, w.before _ s = true := fun w h => hts w (List.mem_cons_of_mem _ h)
  have hown : s.vm.findClass RX0 = some m.cls := findClass_of_methodNamed B.named
  have hlocks := B.notSynchronized
  have hin : meth.name = "<init>" := (name_of_methodNamed B.named B.method).1
  subst hsz
  have hD := hD0.self (sz := s.heap.size)
  generalize hAe : va_A [(h, .inr (0, [.null, .null, .null, .null, .null, .null, .null, .null, .null, .null, .null, .null, vI 0, vI 0]))] s.heap.size = A at hD ⊢
  have hA : ∀ q : Nat, s.heap.size ≤ q → A q := fun q h => by rw [← hAe]; exact Or.inr h
  have hS : va_S A s.heap s.heap [] := va_S.rf
  have hl := lv_entry ([.ref h]) (n := 1) (Nat.le_of_ble_eq_true rfl)
  rw [lg_entry_eq]
  generalize (lg_sl ([.ref h]) ++ List.replicate (1 - (lg_sl ([.ref h])).length) Slot.unset).toArray = ls at hl ⊢
  have hl : lv_has ls 1 [(0, .ref h)] := hl
  refine lv_aload_n hx hb dX0_init_0 rfl (lv_at hl 0 rfl) ?_
  refine W.objInit hx hb hown (hts _ q32) (hts _ q33) (hts _ q34) rfl (by rw [hml]; exact hl.1) rfl dX0_init_1 (Nat.le_of_ble_eq_true rfl) (Nat.le_of_ble_eq_true rfl) ?_
  refine W.eq (g2 := F0 m 4 ls []) rfl ?_
  refine lv_aload_n hx hb dX0_init_4 rfl (lv_at hl 0 rfl) ?_
  refine lv_bipush (v := iI 20) hx hb dX0_init_5 (by decide +kernel) ?_
  refine va_newa (atype := .int) (ty := .int) (N' := 20) (a0 := (20, .inl (fun _ => iI 0))) hx hb (hts _ q78) rfl hK hP hD hS hA (fun cA => by rw [iI_0]; rfl) (by decide +kernel) (by decide +kernel) (by decide +kernel) (Nat.le_of_ble_eq_true rfl) (Nat.le_of_ble_eq_true rfl) dX0_init_7 (fun p0 cA H hK2 hP hD hS => ?_)
  obtain rfl := tyL_eq false hK2 rfl
  have hP : va_P D xCl [(h, .inr (0, [.null, .null, .null, .null, .null, .null, .null, .null, .null, .null, .null, .null, vI 0, vI 0])), (p0, .inl (dA false, 20, .inl (fun _ => iI 0)))] H := hP
  have hD : va_D A [(h, .inr (0, [.null, .null, .null, .null, .null, .null, .null, .null, .null, .null, .null, .null, vI 0, vI 0])), (p0, .inl (dA false, 20, .inl (fun _ => iI 0)))] := hD
  refine W.widen (k := 1) (n := 20) (Nat.le_of_ble_eq_true rfl) (Nat.le_of_ble_eq_true rfl) ?_
  refine va_putF (ci := 0) (v := .ref p0) (ty := .array .int) (C := RX0) (T := TX0) (N := 14) hx hb hts in_X0 tyX0 tyX0_ok nmX0 hown hK hP hD hS 0 rfl rfl 0 (by decide) (hts _ q35) (fun _ h9 => h9) rfl hin rfl (by decide +kernel) rfl rfl (Nat.le_of_ble_eq_true rfl) dX0_init_9 (fun H locs hP hD hS => ?_)
  have hP : va_P D xCl [(h, .inr (0, [.ref p0, .null, .null, .null, .null, .null, .null, .null, .null, .null, .null, .null, vI 0, vI 0])), (p0, .inl (dA false, 20, .inl (fun _ => iI 0)))] H := hP
  have hD : va_D A [(h, .inr (0, [.ref p0, .null, .null, .null, .null, .null, .null, .null, .null, .null, .null, .null, vI 0, vI 0])), (p0, .inl (dA false, 20, .inl (fun _ => iI 0)))] := hD
  refine lv_aload_n hx hb dX0_init_12 rfl (lv_at hl 0 rfl) ?_
  refine lv_bipush (v := iI 6) hx hb dX0_init_13 (by decide +kernel) ?_
  refine va_newa (atype := .int) (ty := .int) (N' := 6) (a0 := (6, .inl (fun _ => iI 0))) hx hb (hts _ q78) rfl hK hP hD hS hA (fun cA => by rw [iI_0]; rfl) (by decide +kernel) (by decide +kernel) (by decide +kernel) (Nat.le_of_ble_eq_true rfl) (Nat.le_of_ble_eq_true rfl) dX0_init_15 (fun p1 cA H hK2 hP hD hS => ?_)
  obtain rfl := tyL_eq false hK2 rfl
  have hP : va_P D xCl [(h, .inr (0, [.ref p0, .null, .null, .null, .null, .null, .null, .null, .null, .null, .null, .null, vI 0, vI 0])), (p0, .inl (dA false, 20, .inl (fun _ => iI 0))), (p1, .inl (dA false, 6, .inl (fun _ => iI 0)))] H := hP
  have hD : va_D A [(h, .inr (0, [.ref p0, .null, .null, .null, .null, .null, .null, .null, .null, .null, .null, .null, vI 0, vI 0])), (p0, .inl (dA false, 20, .inl (fun _ => iI 0))), (p1, .inl (dA false, 6, .inl (fun _ => iI 0)))] := hD
  refine W.widen (k := 2) (n := 26) (Nat.le_of_ble_eq_true rfl) (Nat.le_of_ble_eq_true rfl) ?_
  refine va_putF (ci := 0) (v := .ref p1) (ty := .array .int) (C := RX0) (T := TX0) (N := 14) hx hb hts in_X0 tyX0 tyX0_ok nmX0 hown hK hP hD hS 0 rfl rfl 1 (by decide) (hts _ q36) (fun _ h9 => h9) rfl hin rfl (by decide +kernel) rfl rfl (Nat.le_of_ble_eq_true rfl) dX0_init_17 (fun H locs hP hD hS => ?_)
  have hP : va_P D xCl [(h, .inr (0, [.ref p0, .ref p1, .null, .null, .null, .null, .null, .null, .null, .null, .null, .null, vI 0, vI 0])), (p0, .inl (dA false, 20, .inl (fun _ => iI 0))), (p1, .inl (dA false, 6, .inl (fun _ => iI 0)))] H := hP
  have hD : va_D A [(h, .inr (0, [.ref p0, .ref p1, .null, .null, .null, .null, .null, .null, .null, .null, .null, .null, vI 0, vI 0])), (p0, .inl (dA false, 20, .inl (fun _ => iI 0))), (p1, .inl (dA false, 6, .inl (fun _ => iI 0)))] := hD
  refine lv_aload_n hx hb dX0_init_20 rfl (lv_at hl 0 rfl) ?_
  refine lv_bipush (v := iI 6) hx hb dX0_init_21 (by decide +kernel) ?_
  refine va_newa (atype := .int) (ty := .int) (N' := 6) (a0 := (6, .inl (fun _ => iI 0))) hx hb (hts _ q78) rfl hK hP hD hS hA (fun cA => by rw [iI_0]; rfl) (by decide +kernel) (by decide +kernel) (by decide +kernel) (Nat.le_of_ble_eq_true rfl) (Nat.le_of_ble_eq_true rfl) dX0_init_23 (fun p2 cA H hK2 hP hD hS => ?_)
  obtain rfl := tyL_eq false hK2 rfl
  have hP : va_P D xCl [(h, .inr (0, [.ref p0, .ref p1, .null, .null, .null, .null, .null, .null, .null, .null, .null, .null, vI 0, vI 0])), (p0, .inl (dA false, 20, .inl (fun _ => iI 0))), (p1, .inl (dA false, 6, .inl (fun _ => iI 0))), (p2, .inl (dA false, 6, .inl (fun _ => iI 0)))] H := hP
  have hD : va_D A [(h, .inr (0, [.ref p0, .ref p1, .null, .null, .null, .null, .null, .null, .null, .null, .null, .null, vI 0, vI 0])), (p0, .inl (dA false, 20, .inl (fun _ => iI 0))), (p1, .inl (dA false, 6, .inl (fun _ => iI 0))), (p2, .inl (dA false, 6, .inl (fun _ => iI 0)))] := hD
  refine W.widen (k := 3) (n := 32) (Nat.le_of_ble_eq_true rfl) (Nat.le_of_ble_eq_true rfl) ?_
  refine va_putF (ci := 0) (v := .ref p2) (ty := .array .int) (C := RX0) (T := TX0) (N := 14) hx hb hts in_X0 tyX0 tyX0_ok nmX0 hown hK hP hD hS 0 rfl rfl 2 (by decide) (hts _ q37) (fun _ h9 => h9) rfl hin rfl (by decide +kernel) rfl rfl (Nat.le_of_ble_eq_true rfl) dX0_init_25 (fun H locs hP hD hS => ?_)
  have hP : va_P D xCl [(h, .inr (0, [.ref p0, .ref p1, .ref p2, .null, .null, .null, .null, .null, .null, .null, .null, .null, vI 0, vI 0])), (p0, .inl (dA false, 20, .inl (fun _ => iI 0))), (p1, .inl (dA false, 6, .inl (fun _ => iI 0))), (p2, .inl (dA false, 6, .inl (fun _ => iI 0)))] H := hP
  have hD : va_D A [(h, .inr (0, [.ref p0, .ref p1, .ref p2, .null, .null, .null, .null, .null, .null, .null, .null, .null, vI 0, vI 0])), (p0, .inl (dA false, 20, .inl (fun _ => iI 0))), (p1, .inl (dA false, 6, .inl (fun _ => iI 0))), (p2, .inl (dA false, 6, .inl (fun _ => iI 0)))] := hD
  refine lv_aload_n hx hb dX0_init_28 rfl (lv_at hl 0 rfl) ?_
  refine lv_bipush (v := iI 6) hx hb dX0_init_29 (by decide +kernel) ?_
  refine va_newa (atype := .int) (ty := .int) (N' := 6) (a0 := (6, .inl (fun _ => iI 0))) hx hb (hts _ q78) rfl hK hP hD hS hA (fun cA => by rw [iI_0]; rfl) (by decide +kernel) (by decide +kernel) (by decide +kernel) (Nat.le_of_ble_eq_true rfl) (Nat.le_of_ble_eq_true rfl) dX0_init_31 (fun p3 cA H hK2 hP hD hS => ?_)
  obtain rfl := tyL_eq false hK2 rfl
  have hP : va_P D xCl [(h, .inr (0, [.ref p0, .ref p1, .ref p2, .null, .null, .null, .null, .null, .null, .null, .null, .null, vI 0, vI 0])), (p0, .inl (dA false, 20, .inl (fun _ => iI 0))), (p1, .inl (dA false, 6, .inl (fun _ => iI 0))), (p2, .inl (dA false, 6, .inl (fun _ => iI 0))), (p3, .inl (dA false, 6, .inl (fun _ => iI 0)))] H := hP
  have hD : va_D A [(h, .inr (0, [.ref p0, .ref p1, .ref p2, .null, .null, .null, .null, .null, .null, .null, .null, .null, vI 0, vI 0])), (p0, .inl (dA false, 20, .inl (fun _ => iI 0))), (p1, .inl (dA false, 6, .inl (fun _ => iI 0))), (p2, .inl (dA false, 6, .inl (fun _ => iI 0))), (p3, .inl (dA false, 6, .inl (fun _ => iI 0)))] := hD
  refine W.widen (k := 4) (n := 38) (Nat.le_of_ble_eq_true rfl) (Nat.le_of_ble_eq_true rfl) ?_
  refine va_putF (ci := 0) (v := .ref p3) (ty := .array .int) (C := RX0) (T := TX0) (N := 14) hx hb hts in_X0 tyX0 tyX0_ok nmX0 hown hK hP hD hS 0 rfl rfl 3 (by decide) (hts _ q38) (fun _ h9 => h9) rfl hin rfl (by decide +kernel) rfl rfl (Nat.le_of_ble_eq_true rfl) dX0_init_33 (fun H locs hP hD hS => ?_)
  have hP : va_P D xCl [(h, .inr (0, [.ref p0, .ref p1, .ref p2, .ref p3, .null, .null, .null, .null, .null, .null, .null, .null, vI 0, vI 0])), (p0, .inl (dA false, 20, .inl (fun _ => iI 0))), (p1, .inl (dA false, 6, .inl (fun _ => iI 0))), (p2, .inl (dA false, 6, .inl (fun _ => iI 0))), (p3, .inl (dA false, 6, .inl (fun _ => iI 0)))] H := hP
  have hD : va_D A [(h, .inr (0, [.ref p0, .ref p1, .ref p2, .ref p3, .null, .null, .null, .null, .null, .null, .null, .null, vI 0, vI 0])), (p0, .inl (dA false, 20, .inl (fun _ => iI 0))), (p1, .inl (dA false, 6, .inl (fun _ => iI 0))), (p2, .inl (dA false, 6, .inl (fun _ => iI 0))), (p3, .inl (dA false, 6, .inl (fun _ => iI 0)))] := hD
  refine lv_aload_n hx hb dX0_init_36 rfl (lv_at hl 0 rfl) ?_
  refine lv_bipush (v := iI 6) hx hb dX0_init_37 (by decide +kernel) ?_
  refine va_newa (atype := .int) (ty := .int) (N' := 6) (a0 := (6, .inl (fun _ => iI 0))) hx hb (hts _ q78) rfl hK hP hD hS hA (fun cA => by rw [iI_0]; rfl) (by decide +kernel) (by decide +kernel) (by decide +kernel) (Nat.le_of_ble_eq_true rfl) (Nat.le_of_ble_eq_true rfl) dX0_init_39 (fun p4 cA H hK2 hP hD hS => ?_)
  obtain rfl := tyL_eq false hK2 rfl
  have hP : va_P D xCl [(h, .inr (0, [.ref p0, .ref p1, .ref p2, .ref p3, .null, .null, .null, .null, .null, .null, .null, .null, vI 0, vI 0])), (p0, .inl (dA false, 20, .inl (fun _ => iI 0))), (p1, .inl (dA false, 6, .inl (fun _ => iI 0))), (p2, .inl (dA false, 6, .inl (fun _ => iI 0))), (p3, .inl (dA false, 6, .inl (fun _ => iI 0))), (p4, .inl (dA false, 6, .inl (fun _ => iI 0)))] H := hP
  have hD : va_D A [(h, .inr (0, [.ref p0, .ref p1, .ref p2, .ref p3, .null, .null, .null, .null, .null, .null, .null, .null, vI 0, vI 0])), (p0, .inl (dA false, 20, .inl (fun _ => iI 0))), (p1, .inl (dA false, 6, .inl (fun _ => iI 0))), (p2, .inl (dA false, 6, .inl (fun _ => iI 0))), (p3, .inl (dA false, 6, .inl (fun _ => iI 0))), (p4, .inl (dA false, 6, .inl (fun _ => iI 0)))] := hD
  refine W.widen (k := 5) (n := 44) (Nat.le_of_ble_eq_true rfl) (Nat.le_of_ble_eq_true rfl) ?_
  refine va_putF (ci := 0) (v := .ref p4) (ty := .array .int) (C := RX0) (T := TX0) (N := 14) hx hb hts in_X0 tyX0 tyX0_ok nmX0 hown hK hP hD hS 0 rfl rfl 4 (by decide) (hts _ q39) (fun _ h9 => h9) rfl hin rfl (by decide +kernel) rfl rfl (Nat.le_of_ble_eq_true rfl) dX0_init_41 (fun H locs hP hD hS => ?_)
  have hP : va_P D xCl [(h, .inr (0, [.ref p0, .ref p1, .ref p2, .ref p3, .ref p4, .null, .null, .null, .null, .null, .null, .null, vI 0, vI 0])), (p0, .inl (dA false, 20, .inl (fun _ => iI 0))), (p1, .inl (dA false, 6, .inl (fun _ => iI 0))), (p2, .inl (dA false, 6, .inl (fun _ => iI 0))), (p3, .inl (dA false, 6, .inl (fun _ => iI 0))), (p4, .inl (dA false, 6, .inl (fun _ => iI 0)))] H := hP
  have hD : va_D A [(h, .inr (0, [.ref p0, .ref p1, .ref p2, .ref p3, .ref p4, .null, .null, .null, .null, .null, .null, .null, vI 0, vI 0])), (p0, .inl (dA false, 20, .inl (fun _ => iI 0))), (p1, .inl (dA false, 6, .inl (fun _ => iI 0))), (p2, .inl (dA false, 6, .inl (fun _ => iI 0))), (p3, .inl (dA false, 6, .inl (fun _ => iI 0))), (p4, .inl (dA false, 6, .inl (fun _ => iI 0)))] := hD
  refine lv_aload_n hx hb dX0_init_44 rfl (lv_at hl 0 rfl) ?_
  refine lv_bipush (v := iI 6) hx hb dX0_init_45 (by decide +kernel) ?_
  refine va_newa (atype := .int) (ty := .int) (N' := 6) (a0 := (6, .inl (fun _ => iI 0))) hx hb (hts _ q78) rfl hK hP hD hS hA (fun cA => by rw [iI_0]; rfl) (by decide +kernel) (by decide +kernel) (by decide +kernel) (Nat.le_of_ble_eq_true rfl) (Nat.le_of_ble_eq_true rfl) dX0_init_47 (fun p5 cA H hK2 hP hD hS => ?_)
  obtain rfl := tyL_eq false hK2 rfl
  have hP : va_P D xCl [(h, .inr (0, [.ref p0, .ref p1, .ref p2, .ref p3, .ref p4, .null, .null, .null, .null, .null, .null, .null, vI 0, vI 0])), (p0, .inl (dA false, 20, .inl (fun _ => iI 0))), (p1, .inl (dA false, 6, .inl (fun _ => iI 0))), (p2, .inl (dA false, 6, .inl (fun _ => iI 0))), (p3, .inl (dA false, 6, .inl (fun _ => iI 0))), (p4, .inl (dA false, 6, .inl (fun _ => iI 0))), (p5, .inl (dA false, 6, .inl (fun _ => iI 0)))] H := hP
  have hD : va_D A [(h, .inr (0, [.ref p0, .ref p1, .ref p2, .ref p3, .ref p4, .null, .null, .null, .null, .null, .null, .null, vI 0, vI 0])), (p0, .inl (dA false, 20, .inl (fun _ => iI 0))), (p1, .inl (dA false, 6, .inl (fun _ => iI 0))), (p2, .inl (dA false, 6, .inl (fun _ => iI 0))), (p3, .inl (dA false, 6, .inl (fun _ => iI 0))), (p4, .inl (dA false, 6, .inl (fun _ => iI 0))), (p5, .inl (dA false, 6, .inl (fun _ => iI 0)))] := hD
  refine W.widen (k := 6) (n := 50) (Nat.le_of_ble_eq_true rfl) (Nat.le_of_ble_eq_true rfl) ?_
  refine va_putF (ci := 0) (v := .ref p5) (ty := .array .int) (C := RX0) (T := TX0) (N := 14) hx hb hts in_X0 tyX0 tyX0_ok nmX0 hown hK hP hD hS 0 rfl rfl 5 (by decide) (hts _ q40) (fun _ h9 => h9) rfl hin rfl (by decide +kernel) rfl rfl (Nat.le_of_ble_eq_true rfl) dX0_init_49 (fun H locs hP hD hS => ?_)
  have hP : va_P D xCl [(h, .inr (0, [.ref p0, .ref p1, .ref p2, .ref p3, .ref p4, .ref p5, .null, .null, .null, .null, .null, .null, vI 0, vI 0])), (p0, .inl (dA false, 20, .inl (fun _ => iI 0))), (p1, .inl (dA false, 6, .inl (fun _ => iI 0))), (p2, .inl (dA false, 6, .inl (fun _ => iI 0))), (p3, .inl (dA false, 6, .inl (fun _ => iI 0))), (p4, .inl (dA false, 6, .inl (fun _ => iI 0))), (p5, .inl (dA false, 6, .inl (fun _ => iI 0)))] H := hP
  have hD : va_D A [(h, .inr (0, [.ref p0, .ref p1, .ref p2, .ref p3, .ref p4, .ref p5, .null, .null, .null, .null, .null, .null, vI 0, vI 0])), (p0, .inl (dA false, 20, .inl (fun _ => iI 0))), (p1, .inl (dA false, 6, .inl (fun _ => iI 0))), (p2, .inl (dA false, 6, .inl (fun _ => iI 0))), (p3, .inl (dA false, 6, .inl (fun _ => iI 0))), (p4, .inl (dA false, 6, .inl (fun _ => iI 0))), (p5, .inl (dA false, 6, .inl (fun _ => iI 0)))] := hD
  refine lv_aload_n hx hb dX0_init_52 rfl (lv_at hl 0 rfl) ?_
  refine lv_bipush (v := iI 6) hx hb dX0_init_53 (by decide +kernel) ?_
  refine va_newa (atype := .int) (ty := .int) (N' := 6) (a0 := (6, .inl (fun _ => iI 0))) hx hb (hts _ q78) rfl hK hP hD hS hA (fun cA => by rw [iI_0]; rfl) (by decide +kernel) (by decide +kernel) (by decide +kernel) (Nat.le_of_ble_eq_true rfl) (Nat.le_of_ble_eq_true rfl) dX0_init_55 (fun p6 cA H hK2 hP hD hS => ?_)
  obtain rfl := tyL_eq false hK2 rfl
  have hP : va_P D xCl [(h, .inr (0, [.ref p0, .ref p1, .ref p2, .ref p3, .ref p4, .ref p5, .null, .null, .null, .null, .null, .null, vI 0, vI 0])), (p0, .inl (dA false, 20, .inl (fun _ => iI 0))), (p1, .inl (dA false, 6, .inl (fun _ => iI 0))), (p2, .inl (dA false, 6, .inl (fun _ => iI 0))), (p3, .inl (dA false, 6, .inl (fun _ => iI 0))), (p4, .inl (dA false, 6, .inl (fun _ => iI 0))), (p5, .inl (dA false, 6, .inl (fun _ => iI 0))), (p6, .inl (dA false, 6, .inl (fun _ => iI 0)))] H := hP
  have hD : va_D A [(h, .inr (0, [.ref p0, .ref p1, .ref p2, .ref p3, .ref p4, .ref p5, .null, .null, .null, .null, .null, .null, vI 0, vI 0])), (p0, .inl (dA false, 20, .inl (fun _ => iI 0))), (p1, .inl (dA false, 6, .inl (fun _ => iI 0))), (p2, .inl (dA false, 6, .inl (fun _ => iI 0))), (p3, .inl (dA false, 6, .inl (fun _ => iI 0))), (p4, .inl (dA false, 6, .inl (fun _ => iI 0))), (p5, .inl (dA false, 6, .inl (fun _ => iI 0))), (p6, .inl (dA false, 6, .inl (fun _ => iI 0)))] := hD
  refine W.widen (k := 7) (n := 56) (Nat.le_of_ble_eq_true rfl) (Nat.le_of_ble_eq_true rfl) ?_
  refine va_putF (ci := 0) (v := .ref p6) (ty := .array .int) (C := RX0) (T := TX0) (N := 14) hx hb hts in_X0 tyX0 tyX0_ok nmX0 hown hK hP hD hS 0 rfl rfl 6 (by decide) (hts _ q41) (fun _ h9 => h9) rfl hin rfl (by decide +kernel) rfl rfl (Nat.le_of_ble_eq_true rfl) dX0_init_57 (fun H locs hP hD hS => ?_)
  have hP : va_P D xCl [(h, .inr (0, [.ref p0, .ref p1, .ref p2, .ref p3, .ref p4, .ref p5, .ref p6, .null, .null, .null, .null, .null, vI 0, vI 0])), (p0, .inl (dA false, 20, .inl (fun _ => iI 0))), (p1, .inl (dA false, 6, .inl (fun _ => iI 0))), (p2, .inl (dA false, 6, .inl (fun _ => iI 0))), (p3, .inl (dA false, 6, .inl (fun _ => iI 0))), (p4, .inl (dA false, 6, .inl (fun _ => iI 0))), (p5, .inl (dA false, 6, .inl (fun _ => iI 0))), (p6, .inl (dA false, 6, .inl (fun _ => iI 0)))] H := hP
  have hD : va_D A [(h, .inr (0, [.ref p0, .ref p1, .ref p2, .ref p3, .ref p4, .ref p5, .ref p6, .null, .null, .null, .null, .null, vI 0, vI 0])), (p0, .inl (dA false, 20, .inl (fun _ => iI 0))), (p1, .inl (dA false, 6, .inl (fun _ => iI 0))), (p2, .inl (dA false, 6, .inl (fun _ => iI 0))), (p3, .inl (dA false, 6, .inl (fun _ => iI 0))), (p4, .inl (dA false, 6, .inl (fun _ => iI 0))), (p5, .inl (dA false, 6, .inl (fun _ => iI 0))), (p6, .inl (dA false, 6, .inl (fun _ => iI 0)))] := hD
  refine lv_aload_n hx hb dX0_init_60 rfl (lv_at hl 0 rfl) ?_
  refine lv_bipush (v := iI 6) hx hb dX0_init_61 (by decide +kernel) ?_
  refine va_newa (atype := .boolean) (ty := .boolean) (N' := 6) (a0 := (6, .inl (fun _ => iI 0))) hx hb (hts _ q79) rfl hK hP hD hS hA (fun cA => by rw [iI_0]; rfl) (by decide +kernel) (by decide +kernel) (by decide +kernel) (Nat.le_of_ble_eq_true rfl) (Nat.le_of_ble_eq_true rfl) dX0_init_63 (fun p7 cA H hK2 hP hD hS => ?_)
  obtain rfl := tyL_eq true hK2 rfl
  have hP : va_P D xCl [(h, .inr (0, [.ref p0, .ref p1, .ref p2, .ref p3, .ref p4, .ref p5, .ref p6, .null, .null, .null, .null, .null, vI 0, vI 0])), (p0, .inl (dA false, 20, .inl (fun _ => iI 0))), (p1, .inl (dA false, 6, .inl (fun _ => iI 0))), (p2, .inl (dA false, 6, .inl (fun _ => iI 0))), (p3, .inl (dA false, 6, .inl (fun _ => iI 0))), (p4, .inl (dA false, 6, .inl (fun _ => iI 0))), (p5, .inl (dA false, 6, .inl (fun _ => iI 0))), (p6, .inl (dA false, 6, .inl (fun _ => iI 0))), (p7, .inl (dA true, 6, .inl (fun _ => iI 0)))] H := hP
  have hD : va_D A [(h, .inr (0, [.ref p0, .ref p1, .ref p2, .ref p3, .ref p4, .ref p5, .ref p6, .null, .null, .null, .null, .null, vI 0, vI 0])), (p0, .inl (dA false, 20, .inl (fun _ => iI 0))), (p1, .inl (dA false, 6, .inl (fun _ => iI 0))), (p2, .inl (dA false, 6, .inl (fun _ => iI 0))), (p3, .inl (dA false, 6, .inl (fun _ => iI 0))), (p4, .inl (dA false, 6, .inl (fun _ => iI 0))), (p5, .inl (dA false, 6, .inl (fun _ => iI 0))), (p6, .inl (dA false, 6, .inl (fun _ => iI 0))), (p7, .inl (dA true, 6, .inl (fun _ => iI 0)))] := hD
  refine W.widen (k := 8) (n := 62) (Nat.le_of_ble_eq_true rfl) (Nat.le_of_ble_eq_true rfl) ?_
  refine va_putF (ci := 0) (v := .ref p7) (ty := .array .boolean) (C := RX0) (T := TX0) (N := 14) hx hb hts in_X0 tyX0 tyX0_ok nmX0 hown hK hP hD hS 0 rfl rfl 7 (by decide) (hts _ q42) (fun _ h9 => h9) rfl hin rfl (by decide +kernel) rfl rfl (Nat.le_of_ble_eq_true rfl) dX0_init_65 (fun H locs hP hD hS => ?_)
  have hP : va_P D xCl [(h, .inr (0, [.ref p0, .ref p1, .ref p2, .ref p3, .ref p4, .ref p5, .ref p6, .ref p7, .null, .null, .null, .null, vI 0, vI 0])), (p0, .inl (dA false, 20, .inl (fun _ => iI 0))), (p1, .inl (dA false, 6, .inl (fun _ => iI 0))), (p2, .inl (dA false, 6, .inl (fun _ => iI 0))), (p3, .inl (dA false, 6, .inl (fun _ => iI 0))), (p4, .inl (dA false, 6, .inl (fun _ => iI 0))), (p5, .inl (dA false, 6, .inl (fun _ => iI 0))), (p6, .inl (dA false, 6, .inl (fun _ => iI 0))), (p7, .inl (dA true, 6, .inl (fun _ => iI 0)))] H := hP
  have hD : va_D A [(h, .inr (0, [.ref p0, .ref p1, .ref p2, .ref p3, .ref p4, .ref p5, .ref p6, .ref p7, .null, .null, .null, .null, vI 0, vI 0])), (p0, .inl (dA false, 20, .inl (fun _ => iI 0))), (p1, .inl (dA false, 6, .inl (fun _ => iI 0))), (p2, .inl (dA false, 6, .inl (fun _ => iI 0))), (p3, .inl (dA false, 6, .inl (fun _ => iI 0))), (p4, .inl (dA false, 6, .inl (fun _ => iI 0))), (p5, .inl (dA false, 6, .inl (fun _ => iI 0))), (p6, .inl (dA false, 6, .inl (fun _ => iI 0))), (p7, .inl (dA true, 6, .inl (fun _ => iI 0)))] := hD
  refine lv_aload_n hx hb dX0_init_68 rfl (lv_at hl 0 rfl) ?_
  refine lv_bipush (v := iI 16) hx hb dX0_init_69 (by decide +kernel) ?_
  refine va_newa (atype := .int) (ty := .int) (N' := 16) (a0 := (16, .inl (fun _ => iI 0))) hx hb (hts _ q78) rfl hK hP hD hS hA (fun cA => by rw [iI_0]; rfl) (by decide +kernel) (by decide +kernel) (by decide +kernel) (Nat.le_of_ble_eq_true rfl) (Nat.le_of_ble_eq_true rfl) dX0_init_71 (fun p8 cA H hK2 hP hD hS => ?_)
  obtain rfl := tyL_eq false hK2 rfl
  have hP : va_P D xCl [(h, .inr (0, [.ref p0, .ref p1, .ref p2, .ref p3, .ref p4, .ref p5, .ref p6, .ref p7, .null, .null, .null, .null, vI 0, vI 0])), (p0, .inl (dA false, 20, .inl (fun _ => iI 0))), (p1, .inl (dA false, 6, .inl (fun _ => iI 0))), (p2, .inl (dA false, 6, .inl (fun _ => iI 0))), (p3, .inl (dA false, 6, .inl (fun _ => iI 0))), (p4, .inl (dA false, 6, .inl (fun _ => iI 0))), (p5, .inl (dA false, 6, .inl (fun _ => iI 0))), (p6, .inl (dA false, 6, .inl (fun _ => iI 0))), (p7, .inl (dA true, 6, .inl (fun _ => iI 0))), (p8, .inl (dA false, 16, .inl (fun _ => iI 0)))] H := hP
  have hD : va_D A [(h, .inr (0, [.ref p0, .ref p1, .ref p2, .ref p3, .ref p4, .ref p5, .ref p6, .ref p7, .null, .null, .null, .null, vI 0, vI 0])), (p0, .inl (dA false, 20, .inl (fun _ => iI 0))), (p1, .inl (dA false, 6, .inl (fun _ => iI 0))), (p2, .inl (dA false, 6, .inl (fun _ => iI 0))), (p3, .inl (dA false, 6, .inl (fun _ => iI 0))), (p4, .inl (dA false, 6, .inl (fun _ => iI 0))), (p5, .inl (dA false, 6, .inl (fun _ => iI 0))), (p6, .inl (dA false, 6, .inl (fun _ => iI 0))), (p7, .inl (dA true, 6, .inl (fun _ => iI 0))), (p8, .inl (dA false, 16, .inl (fun _ => iI 0)))] := hD
  refine W.widen (k := 9) (n := 78) (Nat.le_of_ble_eq_true rfl) (Nat.le_of_ble_eq_true rfl) ?_
  refine va_putF (ci := 0) (v := .ref p8) (ty := .array .int) (C := RX0) (T := TX0) (N := 14) hx hb hts in_X0 tyX0 tyX0_ok nmX0 hown hK hP hD hS 0 rfl rfl 8 (by decide) (hts _ q43) (fun _ h9 => h9) rfl hin rfl (by decide +kernel) rfl rfl (Nat.le_of_ble_eq_true rfl) dX0_init_73 (fun H locs hP hD hS => ?_)
  have hP : va_P D xCl [(h, .inr (0, [.ref p0, .ref p1, .ref p2, .ref p3, .ref p4, .ref p5, .ref p6, .ref p7, .ref p8, .null, .null, .null, vI 0, vI 0])), (p0, .inl (dA false, 20, .inl (fun _ => iI 0))), (p1, .inl (dA false, 6, .inl (fun _ => iI 0))), (p2, .inl (dA false, 6, .inl (fun _ => iI 0))), (p3, .inl (dA false, 6, .inl (fun _ => iI 0))), (p4, .inl (dA false, 6, .inl (fun _ => iI 0))), (p5, .inl (dA false, 6, .inl (fun _ => iI 0))), (p6, .inl (dA false, 6, .inl (fun _ => iI 0))), (p7, .inl (dA true, 6, .inl (fun _ => iI 0))), (p8, .inl (dA false, 16, .inl (fun _ => iI 0)))] H := hP
  have hD : va_D A [(h, .inr (0, [.ref p0, .ref p1, .ref p2, .ref p3, .ref p4, .ref p5, .ref p6, .ref p7, .ref p8, .null, .null, .null, vI 0, vI 0])), (p0, .inl (dA false, 20, .inl (fun _ => iI 0))), (p1, .inl (dA false, 6, .inl (fun _ => iI 0))), (p2, .inl (dA false, 6, .inl (fun _ => iI 0))), (p3, .inl (dA false, 6, .inl (fun _ => iI 0))), (p4, .inl (dA false, 6, .inl (fun _ => iI 0))), (p5, .inl (dA false, 6, .inl (fun _ => iI 0))), (p6, .inl (dA false, 6, .inl (fun _ => iI 0))), (p7, .inl (dA true, 6, .inl (fun _ => iI 0))), (p8, .inl (dA false, 16, .inl (fun _ => iI 0)))] := hD
  refine lv_aload_n hx hb dX0_init_76 rfl (lv_at hl 0 rfl) ?_
  refine lv_bipush (v := iI 16) hx hb dX0_init_77 (by decide +kernel) ?_
  refine va_newa (atype := .int) (ty := .int) (N' := 16) (a0 := (16, .inl (fun _ => iI 0))) hx hb (hts _ q78) rfl hK hP hD hS hA (fun cA => by rw [iI_0]; rfl) (by decide +kernel) (by decide +kernel) (by decide +kernel) (Nat.le_of_ble_eq_true rfl) (Nat.le_of_ble_eq_true rfl) dX0_init_79 (fun p9 cA H hK2 hP hD hS => ?_)
  obtain rfl := tyL_eq false hK2 rfl
  have hP : va_P D xCl [(h, .inr (0, [.ref p0, .ref p1, .ref p2, .ref p3, .ref p4, .ref p5, .ref p6, .ref p7, .ref p8, .null, .null, .null, vI 0, vI 0])), (p0, .inl (dA false, 20, .inl (fun _ => iI 0))), (p1, .inl (dA false, 6, .inl (fun _ => iI 0))), (p2, .inl (dA false, 6, .inl (fun _ => iI 0))), (p3, .inl (dA false, 6, .inl (fun _ => iI 0))), (p4, .inl (dA false, 6, .inl (fun _ => iI 0))), (p5, .inl (dA false, 6, .inl (fun _ => iI 0))), (p6, .inl (dA false, 6, .inl (fun _ => iI 0))), (p7, .inl (dA true, 6, .inl (fun _ => iI 0))), (p8, .inl (dA false, 16, .inl (fun _ => iI 0))), (p9, .inl (dA false, 16, .inl (fun _ => iI 0)))] H := hP
  have hD : va_D A [(h, .inr (0, [.ref p0, .ref p1, .ref p2, .ref p3, .ref p4, .ref p5, .ref p6, .ref p7, .ref p8, .null, .null, .null, vI 0, vI 0])), (p0, .inl (dA false, 20, .inl (fun _ => iI 0))), (p1, .inl (dA false, 6, .inl (fun _ => iI 0))), (p2, .inl (dA false, 6, .inl (fun _ => iI 0))), (p3, .inl (dA false, 6, .inl (fun _ => iI 0))), (p4, .inl (dA false, 6, .inl (fun _ => iI 0))), (p5, .inl (dA false, 6, .inl (fun _ => iI 0))), (p6, .inl (dA false, 6, .inl (fun _ => iI 0))), (p7, .inl (dA true, 6, .inl (fun _ => iI 0))), (p8, .inl (dA false, 16, .inl (fun _ => iI 0))), (p9, .inl (dA false, 16, .inl (fun _ => iI 0)))] := hD
  refine W.widen (k := 10) (n := 94) (Nat.le_of_ble_eq_true rfl) (Nat.le_of_ble_eq_true rfl) ?_
  refine va_putF (ci := 0) (v := .ref p9) (ty := .array .int) (C := RX0) (T := TX0) (N := 14) hx hb hts in_X0 tyX0 tyX0_ok nmX0 hown hK hP hD hS 0 rfl rfl 9 (by decide) (hts _ q44) (fun _ h9 => h9) rfl hin rfl (by decide +kernel) rfl rfl (Nat.le_of_ble_eq_true rfl) dX0_init_81 (fun H locs hP hD hS => ?_)
  have hP : va_P D xCl [(h, .inr (0, [.ref p0, .ref p1, .ref p2, .ref p3, .ref p4, .ref p5, .ref p6, .ref p7, .ref p8, .ref p9, .null, .null, vI 0, vI 0])), (p0, .inl (dA false, 20, .inl (fun _ => iI 0))), (p1, .inl (dA false, 6, .inl (fun _ => iI 0))), (p2, .inl (dA false, 6, .inl (fun _ => iI 0))), (p3, .inl (dA false, 6, .inl (fun _ => iI 0))), (p4, .inl (dA false, 6, .inl (fun _ => iI 0))), (p5, .inl (dA false, 6, .inl (fun _ => iI 0))), (p6, .inl (dA false, 6, .inl (fun _ => iI 0))), (p7, .inl (dA true, 6, .inl (fun _ => iI 0))), (p8, .inl (dA false, 16, .inl (fun _ => iI 0))), (p9, .inl (dA false, 16, .inl (fun _ => iI 0)))] H := hP
  have hD : va_D A [(h, .inr (0, [.ref p0, .ref p1, .ref p2, .ref p3, .ref p4, .ref p5, .ref p6, .ref p7, .ref p8, .ref p9, .null, .null, vI 0, vI 0])), (p0, .inl (dA false, 20, .inl (fun _ => iI 0))), (p1, .inl (dA false, 6, .inl (fun _ => iI 0))), (p2, .inl (dA false, 6, .inl (fun _ => iI 0))), (p3, .inl (dA false, 6, .inl (fun _ => iI 0))), (p4, .inl (dA false, 6, .inl (fun _ => iI 0))), (p5, .inl (dA false, 6, .inl (fun _ => iI 0))), (p6, .inl (dA false, 6, .inl (fun _ => iI 0))), (p7, .inl (dA true, 6, .inl (fun _ => iI 0))), (p8, .inl (dA false, 16, .inl (fun _ => iI 0))), (p9, .inl (dA false, 16, .inl (fun _ => iI 0)))] := hD
  refine lv_aload_n hx hb dX0_init_84 rfl (lv_at hl 0 rfl) ?_
  refine lv_bipush (v := iI 16) hx hb dX0_init_85 (by decide +kernel) ?_
  refine va_newa (atype := .int) (ty := .int) (N' := 16) (a0 := (16, .inl (fun _ => iI 0))) hx hb (hts _ q78) rfl hK hP hD hS hA (fun cA => by rw [iI_0]; rfl) (by decide +kernel) (by decide +kernel) (by decide +kernel) (Nat.le_of_ble_eq_true rfl) (Nat.le_of_ble_eq_true rfl) dX0_init_87 (fun p10 cA H hK2 hP hD hS => ?_)
  obtain rfl := tyL_eq false hK2 rfl
  have hP : va_P D xCl [(h, .inr (0, [.ref p0, .ref p1, .ref p2, .ref p3, .ref p4, .ref p5, .ref p6, .ref p7, .ref p8, .ref p9, .null, .null, vI 0, vI 0])), (p0, .inl (dA false, 20, .inl (fun _ => iI 0))), (p1, .inl (dA false, 6, .inl (fun _ => iI 0))), (p2, .inl (dA false, 6, .inl (fun _ => iI 0))), (p3, .inl (dA false, 6, .inl (fun _ => iI 0))), (p4, .inl (dA false, 6, .inl (fun _ => iI 0))), (p5, .inl (dA false, 6, .inl (fun _ => iI 0))), (p6, .inl (dA false, 6, .inl (fun _ => iI 0))), (p7, .inl (dA true, 6, .inl (fun _ => iI 0))), (p8, .inl (dA false, 16, .inl (fun _ => iI 0))), (p9, .inl (dA false, 16, .inl (fun _ => iI 0))), (p10, .inl (dA false, 16, .inl (fun _ => iI 0)))] H := hP
  have hD : va_D A [(h, .inr (0, [.ref p0, .ref p1, .ref p2, .ref p3, .ref p4, .ref p5, .ref p6, .ref p7, .ref p8, .ref p9, .null, .null, vI 0, vI 0])), (p0, .inl (dA false, 20, .inl (fun _ => iI 0))), (p1, .inl (dA false, 6, .inl (fun _ => iI 0))), (p2, .inl (dA false, 6, .inl (fun _ => iI 0))), (p3, .inl (dA false, 6, .inl (fun _ => iI 0))), (p4, .inl (dA false, 6, .inl (fun _ => iI 0))), (p5, .inl (dA false, 6, .inl (fun _ => iI 0))), (p6, .inl (dA false, 6, .inl (fun _ => iI 0))), (p7, .inl (dA true, 6, .inl (fun _ => iI 0))), (p8, .inl (dA false, 16, .inl (fun _ => iI 0))), (p9, .inl (dA false, 16, .inl (fun _ => iI 0))), (p10, .inl (dA false, 16, .inl (fun _ => iI 0)))] := hD
  refine W.widen (k := 11) (n := 110) (Nat.le_of_ble_eq_true rfl) (Nat.le_of_ble_eq_true rfl) ?_
  refine va_putF (ci := 0) (v := .ref p10) (ty := .array .int) (C := RX0) (T := TX0) (N := 14) hx hb hts in_X0 tyX0 tyX0_ok nmX0 hown hK hP hD hS 0 rfl rfl 10 (by decide) (hts _ q45) (fun _ h9 => h9) rfl hin rfl (by decide +kernel) rfl rfl (Nat.le_of_ble_eq_true rfl) dX0_init_89 (fun H locs hP hD hS => ?_)
  have hP : va_P D xCl [(h, .inr (0, [.ref p0, .ref p1, .ref p2, .ref p3, .ref p4, .ref p5, .ref p6, .ref p7, .ref p8, .ref p9, .ref p10, .null, vI 0, vI 0])), (p0, .inl (dA false, 20, .inl (fun _ => iI 0))), (p1, .inl (dA false, 6, .inl (fun _ => iI 0))), (p2, .inl (dA false, 6, .inl (fun _ => iI 0))), (p3, .inl (dA false, 6, .inl (fun _ => iI 0))), (p4, .inl (dA false, 6, .inl (fun _ => iI 0))), (p5, .inl (dA false, 6, .inl (fun _ => iI 0))), (p6, .inl (dA false, 6, .inl (fun _ => iI 0))), (p7, .inl (dA true, 6, .inl (fun _ => iI 0))), (p8, .inl (dA false, 16, .inl (fun _ => iI 0))), (p9, .inl (dA false, 16, .inl (fun _ => iI 0))), (p10, .inl (dA false, 16, .inl (fun _ => iI 0)))] H := hP
  have hD : va_D A [(h, .inr (0, [.ref p0, .ref p1, .ref p2, .ref p3, .ref p4, .ref p5, .ref p6, .ref p7, .ref p8, .ref p9, .ref p10, .null, vI 0, vI 0])), (p0, .inl (dA false, 20, .inl (fun _ => iI 0))), (p1, .inl (dA false, 6, .inl (fun _ => iI 0))), (p2, .inl (dA false, 6, .inl (fun _ => iI 0))), (p3, .inl (dA false, 6, .inl (fun _ => iI 0))), (p4, .inl (dA false, 6, .inl (fun _ => iI 0))), (p5, .inl (dA false, 6, .inl (fun _ => iI 0))), (p6, .inl (dA false, 6, .inl (fun _ => iI 0))), (p7, .inl (dA true, 6, .inl (fun _ => iI 0))), (p8, .inl (dA false, 16, .inl (fun _ => iI 0))), (p9, .inl (dA false, 16, .inl (fun _ => iI 0))), (p10, .inl (dA false, 16, .inl (fun _ => iI 0)))] := hD
  refine lv_aload_n hx hb dX0_init_92 rfl (lv_at hl 0 rfl) ?_
  refine lv_bipush (v := iI 16) hx hb dX0_init_93 (by decide +kernel) ?_
  refine va_newa (atype := .int) (ty := .int) (N' := 16) (a0 := (16, .inl (fun _ => iI 0))) hx hb (hts _ q78) rfl hK hP hD hS hA (fun cA => by rw [iI_0]; rfl) (by decide +kernel) (by decide +kernel) (by decide +kernel) (Nat.le_of_ble_eq_true rfl) (Nat.le_of_ble_eq_true rfl) dX0_init_95 (fun p11 cA H hK2 hP hD hS => ?_)
  obtain rfl := tyL_eq false hK2 rfl
  have hP : va_P D xCl [(h, .inr (0, [.ref p0, .ref p1, .ref p2, .ref p3, .ref p4, .ref p5, .ref p6, .ref p7, .ref p8, .ref p9, .ref p10, .null, vI 0, vI 0])), (p0, .inl (dA false, 20, .inl (fun _ => iI 0))), (p1, .inl (dA false, 6, .inl (fun _ => iI 0))), (p2, .inl (dA false, 6, .inl (fun _ => iI 0))), (p3, .inl (dA false, 6, .inl (fun _ => iI 0))), (p4, .inl (dA false, 6, .inl (fun _ => iI 0))), (p5, .inl (dA false, 6, .inl (fun _ => iI 0))), (p6, .inl (dA false, 6, .inl (fun _ => iI 0))), (p7, .inl (dA true, 6, .inl (fun _ => iI 0))), (p8, .inl (dA false, 16, .inl (fun _ => iI 0))), (p9, .inl (dA false, 16, .inl (fun _ => iI 0))), (p10, .inl (dA false, 16, .inl (fun _ => iI 0))), (p11, .inl (dA false, 16, .inl (fun _ => iI 0)))] H := hP
  have hD : va_D A [(h, .inr (0, [.ref p0, .ref p1, .ref p2, .ref p3, .ref p4, .ref p5, .ref p6, .ref p7, .ref p8, .ref p9, .ref p10, .null, vI 0, vI 0])), (p0, .inl (dA false, 20, .inl (fun _ => iI 0))), (p1, .inl (dA false, 6, .inl (fun _ => iI 0))), (p2, .inl (dA false, 6, .inl (fun _ => iI 0))), (p3, .inl (dA false, 6, .inl (fun _ => iI 0))), (p4, .inl (dA false, 6, .inl (fun _ => iI 0))), (p5, .inl (dA false, 6, .inl (fun _ => iI 0))), (p6, .inl (dA false, 6, .inl (fun _ => iI 0))), (p7, .inl (dA true, 6, .inl (fun _ => iI 0))), (p8, .inl (dA false, 16, .inl (fun _ => iI 0))), (p9, .inl (dA false, 16, .inl (fun _ => iI 0))), (p10, .inl (dA false, 16, .inl (fun _ => iI 0))), (p11, .inl (dA false, 16, .inl (fun _ => iI 0)))] := hD
  refine W.widen (k := 12) (n := 126) (Nat.le_of_ble_eq_true rfl) (Nat.le_of_ble_eq_true rfl) ?_
  refine va_putF (ci := 0) (v := .ref p11) (ty := .array .int) (C := RX0) (T := TX0) (N := 14) hx hb hts in_X0 tyX0 tyX0_ok nmX0 hown hK hP hD hS 0 rfl rfl 11 (by decide) (hts _ q46) (fun _ h9 => h9) rfl hin rfl (by decide +kernel) rfl rfl (Nat.le_of_ble_eq_true rfl) dX0_init_97 (fun H locs hP hD hS => ?_)
  have hP : va_P D xCl [(h, .inr (0, [.ref p0, .ref p1, .ref p2, .ref p3, .ref p4, .ref p5, .ref p6, .ref p7, .ref p8, .ref p9, .ref p10, .ref p11, vI 0, vI 0])), (p0, .inl (dA false, 20, .inl (fun _ => iI 0))), (p1, .inl (dA false, 6, .inl (fun _ => iI 0))), (p2, .inl (dA false, 6, .inl (fun _ => iI 0))), (p3, .inl (dA false, 6, .inl (fun _ => iI 0))), (p4, .inl (dA false, 6, .inl (fun _ => iI 0))), (p5, .inl (dA false, 6, .inl (fun _ => iI 0))), (p6, .inl (dA false, 6, .inl (fun _ => iI 0))), (p7, .inl (dA true, 6, .inl (fun _ => iI 0))), (p8, .inl (dA false, 16, .inl (fun _ => iI 0))), (p9, .inl (dA false, 16, .inl (fun _ => iI 0))), (p10, .inl (dA false, 16, .inl (fun _ => iI 0))), (p11, .inl (dA false, 16, .inl (fun _ => iI 0)))] H := hP
  have hD : va_D A [(h, .inr (0, [.ref p0, .ref p1, .ref p2, .ref p3, .ref p4, .ref p5, .ref p6, .ref p7, .ref p8, .ref p9, .ref p10, .ref p11, vI 0, vI 0])), (p0, .inl (dA false, 20, .inl (fun _ => iI 0))), (p1, .inl (dA false, 6, .inl (fun _ => iI 0))), (p2, .inl (dA false, 6, .inl (fun _ => iI 0))), (p3, .inl (dA false, 6, .inl (fun _ => iI 0))), (p4, .inl (dA false, 6, .inl (fun _ => iI 0))), (p5, .inl (dA false, 6, .inl (fun _ => iI 0))), (p6, .inl (dA false, 6, .inl (fun _ => iI 0))), (p7, .inl (dA true, 6, .inl (fun _ => iI 0))), (p8, .inl (dA false, 16, .inl (fun _ => iI 0))), (p9, .inl (dA false, 16, .inl (fun _ => iI 0))), (p10, .inl (dA false, 16, .inl (fun _ => iI 0))), (p11, .inl (dA false, 16, .inl (fun _ => iI 0)))] := hD
  refine lv_aload_n hx hb dX0_init_100 rfl (lv_at hl 0 rfl) ?_
  refine lv_iconst (v := iI 0) hx hb dX0_init_101 rfl ?_
  refine va_put (ci := 0) (v := vI 0) (ty := .int) (C := RX0) (T := TX0) (N := 14) hx hb hts in_X0 tyX0 tyX0_ok nmX0 hown hK hP hD hS 0 rfl rfl 12 (by decide) (hts _ q47) (fun _ h9 => h9) rfl (by decide +kernel) rfl rfl (Nat.le_of_ble_eq_true rfl) dX0_init_102 (fun H locs hP hD hS => ?_)
  have hP : va_P D xCl [(h, .inr (0, [.ref p0, .ref p1, .ref p2, .ref p3, .ref p4, .ref p5, .ref p6, .ref p7, .ref p8, .ref p9, .ref p10, .ref p11, vI 0, vI 0])), (p0, .inl (dA false, 20, .inl (fun _ => iI 0))), (p1, .inl (dA false, 6, .inl (fun _ => iI 0))), (p2, .inl (dA false, 6, .inl (fun _ => iI 0))), (p3, .inl (dA false, 6, .inl (fun _ => iI 0))), (p4, .inl (dA false, 6, .inl (fun _ => iI 0))), (p5, .inl (dA false, 6, .inl (fun _ => iI 0))), (p6, .inl (dA false, 6, .inl (fun _ => iI 0))), (p7, .inl (dA true, 6, .inl (fun _ => iI 0))), (p8, .inl (dA false, 16, .inl (fun _ => iI 0))), (p9, .inl (dA false, 16, .inl (fun _ => iI 0))), (p10, .inl (dA false, 16, .inl (fun _ => iI 0))), (p11, .inl (dA false, 16, .inl (fun _ => iI 0)))] H := hP
  have hD : va_D A [(h, .inr (0, [.ref p0, .ref p1, .ref p2, .ref p3, .ref p4, .ref p5, .ref p6, .ref p7, .ref p8, .ref p9, .ref p10, .ref p11, vI 0, vI 0])), (p0, .inl (dA false, 20, .inl (fun _ => iI 0))), (p1, .inl (dA false, 6, .inl (fun _ => iI 0))), (p2, .inl (dA false, 6, .inl (fun _ => iI 0))), (p3, .inl (dA false, 6, .inl (fun _ => iI 0))), (p4, .inl (dA false, 6, .inl (fun _ => iI 0))), (p5, .inl (dA false, 6, .inl (fun _ => iI 0))), (p6, .inl (dA false, 6, .inl (fun _ => iI 0))), (p7, .inl (dA true, 6, .inl (fun _ => iI 0))), (p8, .inl (dA false, 16, .inl (fun _ => iI 0))), (p9, .inl (dA false, 16, .inl (fun _ => iI 0))), (p10, .inl (dA false, 16, .inl (fun _ => iI 0))), (p11, .inl (dA false, 16, .inl (fun _ => iI 0)))] := hD
  have hP9 : va_P D xCl (xw 0 dA h (fun i => ([p0, p1, p2, p3, p4, p5, p6, p7, p8, p9, p10, p11] : List Nat).getD i 0) (fun _ _ => 0, [0, 0])) H := hP
  have hD9 : va_D A (xw 0 dA h (fun i => ([p0, p1, p2, p3, p4, p5, p6, p7, p8, p9, p10, p11] : List Nat).getD i 0) (fun _ _ => 0, [0, 0])) := hD
  exact W.vret hx hb hr (fun t ht hW => ⟨⟨(fun i => ([p0, p1, p2, p3, p4, p5, p6, p7, p8, p9, p10, p11] : List Nat).getD i 0), rfl, trivial, by rw [ht]; exact hP9, va_K.moved hW.alike hK, hD9⟩, hS.F ht⟩) hS.2.2 dX0_init_105
set_option maxHeartbeats 8000000 in
theorem tX1_init (l : Launch) (D : va_G) (dA : Bool → ClassId) (h sz : Nat) : Met l yX1_init (ws_ yX1_init cX1_init 1 none) ({ frames := 1, cells := 1, slots := 20, locals := 12 }) (va_Pc [.ref h] (fun U => U.heap.size = sz ∧ va_P D xCl [(h, .inr (1, [.null, vI 0, vI 0, vI 0, vI 0]))] U.heap ∧ va_K D xCl (tyL dA) U ∧ va_D (fun _ => True) [(h, .inr (1, [.null, vI 0, vI 0, vI 0, vI 0]))])) (va_Qv (fun _ : Nat → Nat => True) (fun q t => va_P D xCl (xw 1 dA h q (fun _ _ => 0, [0, 0, 0, 0])) t.heap ∧ va_K D xCl (tyL dA) t ∧ va_D (va_A [(h, .inr (1, [.null, vI 0, vI 0, vI 0, vI 0]))] sz) (xw 1 dA h q (fun _ _ => 0, [0, 0, 0, 0]))) (va_A [(h, .inr (1, [.null, vI 0, vI 0, vI 0, vI 0]))] sz)) 1 20 (va_A [(h, .inr (1, [.null, vI 0, vI 0, vI 0, vI 0]))] sz) := by
  refine Met.ofW (cc := cX1_init) (maxL := 1) (ret := none) (by decide +kernel) rfl ?_
  intro p e s m args below meth c s₁ B hml hv
  obtain ⟨rfl, hsz, hP, hK, hD0⟩ := hv
  have hx := B.exec
  have hb := B.bytes
  have hr := B.returns
  have hts := atoms_spec (ws := ws_ yX1_init cX1_init 1 none) B.pre
  have hts : ∀ w ∈ lw_all, w.before _ s = true := fun w h => hts w (List.mem_cons_of_mem _ h)
  have hown : s.vm.findClass RX1 = some m.cls := findClass_of_methodNamed B.named
  have hlocks := B.notSynchronized
  have hin : meth.name = "<init>" := (name_of_methodNamed B.named B.method).1
  subst hsz
  have hD := hD0.self (sz := s.heap.size)
  generalize hAe : va_A [(h, .inr (1, [.null, vI 0, vI 0, vI 0, vI 0]))] s.heap.size = A at hD ⊢
  have hA : ∀ q : Nat, s.heap.size ≤ q → A q := fun q h => by rw [← hAe]; exact Or.inr h
  have hS : va_S A s.heap s.heap [] := va_S.rf
  have hl := lv_entry ([.ref h]) (n := 1) (Nat.le_of_ble_eq_true rfl)
  rw [lg_entry_eq]
  generalize (lg_sl ([.ref h]) ++ List.replicate (1 - (lg_sl ([.ref h])).length) Slot.unset).toArray = ls at hl ⊢
  have hl : lv_has ls 1 [(0, .ref h)] := hl
  refine lv_aload_n hx hb dX1_init_0 rfl (lv_at hl 0 rfl) ?_
  refine W.objInit hx hb hown (hts _ q198) (hts _ q33) (hts _ q34) rfl (by rw [hml]; exact hl.1) rfl dX1_init_1 (Nat.le_of_ble_eq_true rfl) (Nat.le_of_ble_eq_true rfl) ?_
  refine W.eq (g2 := F0 m 4 ls []) rfl ?_
  refine lv_aload_n hx hb dX1_init_4 rfl (lv_at hl 0 rfl) ?_
  refine lv_bipush (v := iI 20) hx hb dX1_init_5 (by decide +kernel) ?_
  refine va_newa (atype := .int) (ty := .int) (N' := 20) (a0 := (20, .inl (fun _ => iI 0))) hx hb (hts _ q78) rfl hK hP hD hS hA (fun cA => by rw [iI_0]; rfl) (by decide +kernel) (by decide +kernel) (by decide +kernel) (Nat.le_of_ble_eq_true rfl) (Nat.le_of_ble_eq_true rfl) dX1_init_7 (fun p0 cA H hK2 hP hD hS => ?_)
  obtain rfl := tyL_eq false hK2 rfl
  have hP : va_P D xCl [(h, .inr (1, [.null, vI 0, vI 0, vI 0, vI 0])), (p0, .inl (dA false, 20, .inl (fun _ => iI 0)))] H := hP
  have hD : va_D A [(h, .inr (1, [.null, vI 0, vI 0, vI 0, vI 0])), (p0, .inl (dA false, 20, .inl (fun _ => iI 0)))] := hD
  refine W.widen (k := 1) (n := 20) (Nat.le_of_ble_eq_true rfl) (Nat.le_of_ble_eq_true rfl) ?_
  refine va_put (ci := 1) (v := .ref p0) (ty := .array .int) (C := RX1) (T := TX1) (N := 5) hx hb hts in_X1 tyX1 tyX1_ok nmX1 hown hK hP hD hS 0 rfl rfl 0 (by decide) (hts _ q199) (fun _ h9 => h9) rfl (by decide +kernel) rfl rfl (Nat.le_of_ble_eq_true rfl) dX1_init_9 (fun H locs hP hD hS => ?_)
  have hP : va_P D xCl [(h, .inr (1, [.ref p0, vI 0, vI 0, vI 0, vI 0])), (p0, .inl (dA false, 20, .inl (fun _ => iI 0)))] H := hP
  have hD : va_D A [(h, .inr (1, [.ref p0, vI 0, vI 0, vI 0, vI 0])), (p0, .inl (dA false, 20, .inl (fun _ => iI 0)))] := hD
  have hP9 : va_P D xCl (xw 1 dA h (fun i => ([p0] : List Nat).getD i 0) (fun _ _ => 0, [0, 0, 0, 0])) H := hP
  have hD9 : va_D A (xw 1 dA h (fun i => ([p0] : List Nat).getD i 0) (fun _ _ => 0, [0, 0, 0, 0])) := hD
  exact W.vret hx hb hr (fun t ht hW => ⟨⟨(fun i => ([p0] : List Nat).getD i 0), rfl, trivial, by rw [ht]; exact hP9, va_K.moved hW.alike hK, hD9⟩, hS.F ht⟩) hS.2.2 dX1_init_12
end
section
set_option maxRecDepth 100000
/-! THE CLAIM OUT OF ONE WALK OF THE LAW'S BODY. Your part is whole_start (and what it stands on); all else here is the same for every law, but numbers. -/
def R_law : String := "ReluBoundsLaw"
def lw_P (b : Addr) (xs : List Int32) (args : Array Value) (s : State) : Prop := args = #[.ref b] ∧ s.IntsAt b xs ∧ xs.length ≤ 256 ∧ (Jvm.Cond.and given_1 narrow_1).before args s = true
def lw_Q (_ : Array Value) (s : State) (o : Outcome) (t : State) : Prop := o = .returned (some (.int 1)) ∧ Framed s o t [] 600000 7290000
def lw_Z (below : List Frame) (a : Array Value) (s : State) : State → Prop := fun t => ∃ o, t.status = .running ∧ Ended t below o ∧ lw_Q a s o t
/-- the law's own end, with 1 on the stack, nothing written that was there before, its room as the claim has it -/
theorem lw_ret {p : Program} {l : Launch} {e : Env} {s : State} {m : MethodId} {below : List Frame} {meth : Method} {c : Code} {b : Nat} (hx : p.tables.exec = Jvm.exec) (hb : c.code = code) (hr : meth.sig.returnType = ret) (hlocks : meth.locks = false) {pc : Nat} {H : Heap} {ls : Array Slot} (hdg : decode code pc = .ok (.ireturn, 1)) : W p l e room_1 s m #[Value.ref b] below meth c H [] 600000 7290000 (lw_Z below #[Value.ref b] s) (F0 m pc ls [.int 1]) := by
  intro T hT X
  obtain ⟨fs, hret, hrun, hended, hW, hframe⟩ := X.leave (v := some (.int 1)) (hlocks := hlocks) (fun h => by rw [hr] at h; cases h)
  have hmeth' : T.vm.method? m = some meth := X.method'
  refine ⟨T.setFrames fs, ?_, .returned (some (.int 1)), hrun, hended, rfl, ⟨_, rfl⟩, hW, hframe⟩
  jvm_step X.here [X.here.top, hx, hb, hdg, hmeth', hr, ret, narrow_b1]
  (try refine ⟨rfl, ?_⟩); (try refine ⟨rfl, ?_⟩)
  first | (intro acts; rw [hret _ acts rfl rfl rfl]) | rw [hret _ _ rfl rfl rfl]
  exact Steps.refl _
/-- what holds at the law's entry: the machine, the code, the tables' words (any of lw_tbl by 'hts w (by decide +kernel)'), the script of L ints xs at the cell b, what the Statement gives of the start (any of its parts by flat_of_before) -/
def lw_At (p : Program) (s : State) (m : MethodId) (meth : Method) (c : Code) (b L : Nat) (xs : Nat → Int32) : Prop :=
  p.tables.exec = Jvm.exec ∧ c.code = code ∧ meth.sig.returnType = ret ∧ c.maxLocals = 4 ∧ s.vm.findClass R_law = some m.cls ∧ (∀ w ∈ lw_tbl, w.before #[Value.ref b] s = true) ∧ va_X b L xs s s.heap ∧ b < s.heap.size ∧ meth.locks = false ∧ (Jvm.Cond.and given_1 narrow_1).before #[Value.ref b] s = true
end
section
set_option maxRecDepth 100000
/-! the law's world: the two objects side by side -/
def wL (dA : Bool → ClassId) (h1 : Nat) (q1 : Nat → Nat) (h2 : Nat) (q2 : Nat → Nat) (u : xU × xU) : va_W := xw 0 dA h1 q1 u.1 ++ xw 1 dA h2 q2 u.2
theorem va_P.left {D : va_G} {cl : List vw_C} {w1 w2 : va_W} {H : Heap} (h : va_P D cl (w1 ++ w2) H) : va_P D cl w1 H := fun k q hk => h k q (by rw [List.getElem?_append_left (List.getElem?_eq_some_iff.mp hk).1]; exact hk)
theorem va_P.right {D : va_G} {cl : List vw_C} {w1 w2 : va_W} {H : Heap} (h : va_P D cl (w1 ++ w2) H) : va_P D cl w2 H := fun k q hk => h (w1.length + k) q (by rw [List.getElem?_append_right (by omega), Nat.add_sub_cancel_left]; exact hk)
theorem va_D.split {A : Nat → Prop} {w1 w2 : va_W} (h : va_D A (w1 ++ w2)) : va_D A w1 ∧ va_D A w2 ∧ ∀ (i j : Nat) (p q : Nat × va_E), w1[i]? = some p → w2[j]? = some q → p.1 ≠ q.1 := by
  have hl : ∀ (k : Nat) (q : Nat × va_E), w1[k]? = some q → (w1 ++ w2)[k]? = some q := fun k q hk => by rw [List.getElem?_append_left (List.getElem?_eq_some_iff.mp hk).1]; exact hk
  have hr : ∀ (k : Nat) (q : Nat × va_E), w2[k]? = some q → (w1 ++ w2)[w1.length + k]? = some q := fun k q hk => by rw [List.getElem?_append_right (by omega), Nat.add_sub_cancel_left]; exact hk
  refine ⟨⟨fun i j p q hi hj e => h.1 i j p q (hl i p hi) (hl j q hj) e, fun k q hk => h.2 k q (hl k q hk)⟩, ⟨fun i j p q hi hj e => ?_, fun k q hk => h.2 _ q (hr k q hk)⟩, fun i j p q hi hj e => ?_⟩
  · have := h.1 _ _ p q (hr i p hi) (hr j q hj) e
    omega
  · have e1 := h.1 _ _ p q (hl i p hi) (hr j q hj) e
    have e2 := (List.getElem?_eq_some_iff.mp hi).1
    omega
section LawX
variable {l : Launch} {own : String} {cc : ByteArray} {nL : Nat} {R : Room} {D : va_G} {dA : Bool → ClassId} {h1 h2 : Nat} {q1 q2 : Nat → Nat} {X : xU × xU → Nat → List Value → List Value → Prop} {u1 u2 : xU} {pc : Nat} {vs st : List Value}
variable {y : MethodName} {bc : ByteArray} {bL lvl idx : Nat} {ret : Option FieldType} {post : Int → xU → Prop}
theorem x_cL0 (hX : XOK l own cc nL R D dA (wL dA h1 q1 h2 q2) X) (As : List Value) (rest : List Value) (hM : XM l y bc bL ret lvl D dA (xw 0 dA h1 q1) (.ref h1 :: As) u1 post)
    (w1 : Cond.methodLink own idx y ∈ lw_all) (w2 : Cond.instanceMethod y ∈ lw_all) (w3 : Cond.selects (xR 0) y y ∈ lw_all) (w4 : Cond.initialized (xR 0) ∈ lw_all) (w5 : Cond.code y bc bL ret ∈ lw_all) (hds : dsc (xR 0) y As.length) (hR : lvl + 1 ≤ R.frames ∧ 8 + (bL + 11) + 30 * lvl ≤ R.locals)
    (hst : st = As.reverse ++ .ref h1 :: rest) (hc : (rest.map fun v => v.category).sum ≤ 8) (hd : decode cc pc = .ok (.invokevirtual idx, 3)) (kk : ∀ (a : Int) (u' : xU), post a u' → X (u', u2) (pc + 3) vs (vI a :: rest)) : X (u1, u2) pc vs st := by
  obtain ⟨p, e, s, m, args, below, meth, c, Q, A, cells, slots, e1, e2, e3, e4, e5, e6, e7, e8, rfl⟩ := hX
  intro H locs ls hP hD hS hl
  have hPa : va_P D xCl (xw 0 dA h1 q1 u1) H := va_P.left hP
  have hPb : va_P D xCl (xw 1 dA h2 q2 u2) H := va_P.right hP
  obtain ⟨hDa, hDb, hap⟩ := va_D.split hD
  dsimp only at hDa hDb hap
  have hF : ∀ a, va_A (xw 0 dA h1 q1 u1) H.size a → A a := fun a z => by
    rcases z with ⟨i, e0, z⟩ | z
    · exact hDa.2 i (a, e0) z
    · exact e7 a (Nat.le_trans hS.1 z)
  have hnot : ∀ (k0 : Nat) (q0 : Nat × va_E), (xw 1 dA h2 q2 u2)[k0]? = some q0 → ¬ va_A (xw 0 dA h1 q1 u1) H.size q0.1 := fun k0 q0 z w => by
    rcases w with ⟨i, e0, w⟩ | w
    · exact hap i k0 (q0.1, e0) q0 w z rfl
    · exact absurd (hPb k0 q0 z).lt (by omega)
  refine va_calli (va_runV (As := As) (rest := rest) ⟨e1, e2, e3, e4, e5⟩ (hM H.size) (cwV As.length e5 (lw_V w1 w2 w3 w4 w5) rfl rfl rfl hds hR) ⟨xPc_blind, va_recv e6 hPa (ci := 0) (q0 := 0) (xcl_at (by decide)) rfl, fun U hU hW => ⟨rfl, by rw [hU], by rw [hU]; exact hPa, va_K.moved hW.alike e6, hDa.weaken (fun _ _ _ _ => trivial)⟩⟩ rfl rfl hl.1 hst (lv_room hc) hd e8) hS (fun a _ z => hF a z) hF (fun r u' t H1 locs1 ht hvm hw hB hz1 hk1 hS1 => ?_)
  obtain ⟨a, rfl, hpost⟩ := hw
  obtain ⟨hP1, hK1, hD1⟩ := hB
  rw [ht] at hP1
  exact kk a u' hpost H1 locs1 ls (va_P.app hP1 (hPb.kept fun k0 q0 z => hk1 q0.1 (hPb k0 q0 z).lt (hnot k0 q0 z))) (va_D.app (hD1.weaken (fun _ _ _ z => hF _ z)) hDb (fun i j p0 q0 z1 z2 z3 => hnot j q0 z2 (by rw [← z3]; exact hD1.2 i p0 z1))) hS1 hl
theorem x_cL1 (hX : XOK l own cc nL R D dA (wL dA h1 q1 h2 q2) X) (As : List Value) (rest : List Value) (hM : XM l y bc bL ret lvl D dA (xw 1 dA h2 q2) (.ref h2 :: As) u2 post)
    (w1 : Cond.methodLink own idx y ∈ lw_all) (w2 : Cond.instanceMethod y ∈ lw_all) (w3 : Cond.selects (xR 1) y y ∈ lw_all) (w4 : Cond.initialized (xR 1) ∈ lw_all) (w5 : Cond.code y bc bL ret ∈ lw_all) (hds : dsc (xR 1) y As.length) (hR : lvl + 1 ≤ R.frames ∧ 8 + (bL + 11) + 30 * lvl ≤ R.locals)
    (hst : st = As.reverse ++ .ref h2 :: rest) (hc : (rest.map fun v => v.category).sum ≤ 8) (hd : decode cc pc = .ok (.invokevirtual idx, 3)) (kk : ∀ (a : Int) (u' : xU), post a u' → X (u1, u') (pc + 3) vs (vI a :: rest)) : X (u1, u2) pc vs st := by
  obtain ⟨p, e, s, m, args, below, meth, c, Q, A, cells, slots, e1, e2, e3, e4, e5, e6, e7, e8, rfl⟩ := hX
  intro H locs ls hP hD hS hl
  have hPa : va_P D xCl (xw 0 dA h1 q1 u1) H := va_P.left hP
  have hPb : va_P D xCl (xw 1 dA h2 q2 u2) H := va_P.right hP
  obtain ⟨hDa, hDb, hap⟩ := va_D.split hD
  dsimp only at hDa hDb hap
  have hF : ∀ a, va_A (xw 1 dA h2 q2 u2) H.size a → A a := fun a z => by
    rcases z with ⟨i, e0, z⟩ | z
    · exact hDb.2 i (a, e0) z
    · exact e7 a (Nat.le_trans hS.1 z)
  have hnot : ∀ (k0 : Nat) (q0 : Nat × va_E), (xw 0 dA h1 q1 u1)[k0]? = some q0 → ¬ va_A (xw 1 dA h2 q2 u2) H.size q0.1 := fun k0 q0 z w => by
    rcases w with ⟨i, e0, w⟩ | w
    · exact hap k0 i q0 (q0.1, e0) z w rfl
    · exact absurd (hPa k0 q0 z).lt (by omega)
  refine va_calli (va_runV (As := As) (rest := rest) ⟨e1, e2, e3, e4, e5⟩ (hM H.size) (cwV As.length e5 (lw_V w1 w2 w3 w4 w5) rfl rfl rfl hds hR) ⟨xPc_blind, va_recv e6 hPb (ci := 1) (q0 := 0) (xcl_at (by decide)) rfl, fun U hU hW => ⟨rfl, by rw [hU], by rw [hU]; exact hPb, va_K.moved hW.alike e6, hDb.weaken (fun _ _ _ _ => trivial)⟩⟩ rfl rfl hl.1 hst (lv_room hc) hd e8) hS (fun a _ z => hF a z) hF (fun r u' t H1 locs1 ht hvm hw hB hz1 hk1 hS1 => ?_)
  obtain ⟨a, rfl, hpost⟩ := hw
  obtain ⟨hP1, hK1, hD1⟩ := hB
  rw [ht] at hP1
  exact kk a u' hpost H1 locs1 ls (va_P.app (hPa.kept fun k0 q0 z => hk1 q0.1 (hPa k0 q0 z).lt (hnot k0 q0 z)) hP1) (va_D.app hDa (hD1.weaken (fun _ _ _ z => hF _ z)) (fun i j p0 q0 z1 z2 z3 => hnot i p0 z1 (by rw [z3]; exact hD1.2 j q0 z2))) hS1 hl
end LawX
section LawR
variable {σ : Type} {l : Launch} {own : String} {cc : ByteArray} {nL : Nat} {R : Room} {D : va_G} {dA : Bool → ClassId} {Wf : σ → va_W} {X : σ → Nat → List Value → List Value → Prop} {u : σ} {pc : Nat} {vs st : List Value}
theorem x_icmpr_eq (hX : XOK l own cc nL R D dA Wf X) {x y : Int32} {off : Int} {tgt : Nat} (hd : decode cc pc = .ok (.if_icmp .eq off, 3)) (ht : (pc : Int) + off = (tgt : Int)) (kt : x = y → X u tgt vs st) (kf : x ≠ y → X u (pc + 3) vs st) : X u pc vs (.int y :: .int x :: st) := by
  obtain ⟨p, e, s, m, args, below, meth, c, Q, A, cells, slots, h1, h2, h3, h4, h5, h6, h7, h8, rfl⟩ := hX
  intro H locs ls hP hD hS hl
  exact lv_icmp_eq h1 h2 hd ht (fun z => kt z H locs ls hP hD hS hl) (fun z => kf z H locs ls hP hD hS hl)
theorem x_tswI (hX : XOK l own cc nL R D dA Wf X) {dflt lo hi : Int} {offs : Array Int} {len : Nat} {x : Int32} {off : Int} {tgt : Nat} (hd : decode cc pc = .ok (.tableswitch dflt lo hi offs, len)) (a1 : ¬ x.toInt < lo) (a2 : ¬ hi < x.toInt) (ho : offs[(x.toInt - lo).toNat]? = some off) (ht : (pc : Int) + off = (tgt : Int)) (k : X u tgt vs st) : X u pc vs (.int x :: st) := by
  obtain ⟨p, e, s, m, args, below, meth, c, Q, A, cells, slots, h1, h2, h3, h4, h5, h6, h7, h8, rfl⟩ := hX
  intro H locs ls hP hD hS hl
  exact lv_tableIn h1 h2 hd a1 a2 ho ht (k H locs ls hP hD hS hl)
theorem x_tswO (hX : XOK l own cc nL R D dA Wf X) {dflt lo hi : Int} {offs : Array Int} {len : Nat} {x : Int32} {tgt : Nat} (hd : decode cc pc = .ok (.tableswitch dflt lo hi offs, len)) (a1 : x.toInt < lo ∨ hi < x.toInt) (ht : (pc : Int) + dflt = (tgt : Int)) (k : X u tgt vs st) : X u pc vs (.int x :: st) := by
  obtain ⟨p, e, s, m, args, below, meth, c, Q, A, cells, slots, h1, h2, h3, h4, h5, h6, h7, h8, rfl⟩ := hX
  intro H locs ls hP hD hS hl
  exact lv_tableOut h1 h2 hd a1 ht (k H locs ls hP hD hS hl)
end LawR
end
section
set_option maxRecDepth 100000
theorem QBreach.uniq {N : Nat → Int} {lim : Int} (L R B T r r' : Int) (h1 : -16 ≤ L) (_ : L ≤ R) (h2 : -16 ≤ B) (_ : B ≤ T) (h : QBreach N lim L R B T r) (h' : QBreach N lim L R B T r') : r = r' := Fst.uniq h1 h2 h h'
set_option maxHeartbeats 8000000 in
/-- the law's loop at its head -/
theorem law_loop (l : Launch) (D : va_G) (dA : Bool → ClassId) (b L : Nat) (xs : Nat → Int32) (hL : L ≤ 256) (h1 h2 : Nat) (q1 q2 : Nat → Nat) (X : xU × xU → Nat → List Value → List Value → Prop) (hX : XOK l R_law code 4 room_1 D dA (wL dA h1 q1 h2 q2) X)
    (hsl : ∀ (u : xU × xU) (pc : Nat) (vs st : List Value) (n : Nat) (i v : Int), i = (n : Int) → n < L → xs n = iI v → decode code pc = .ok (.iaload, 1) → X u (pc + 1) vs (vI v :: st) → X u pc vs (vI i :: .ref b :: st))
    (hln : ∀ (u : xU × xU) (pc : Nat) (vs st : List Value), decode code pc = .ok (.arraylength, 1) → X u (pc + 1) vs (vI (L : Int) :: st) → X u pc vs (.ref b :: st))
    (hret : ∀ (u : xU × xU) (pc : Nat) (vs : List Value), decode code pc = .ok (.ireturn, 1) → X u pc vs [vI 1]) :
    ∀ (n m : Nat) (i : Int) (G1 G2 : Nat → Nat → Int) (sc1 sc2 : List Int), m ≤ L + 3 → L + 4 ≤ m + n → i = (m : Int) → G1 0 = G2 0 → NB (G1 0) → shp0 sc1 → shp1 sc2 → X ((G1, sc1), (G2, sc2)) 18 [.ref b, .ref h1, .ref h2, vI i] [] := by
  intro n
  induction n with
  | zero => intro m i G1 G2 sc1 sc2 e1 e2; exact absurd e2 (by omega)
  | succ n ih =>
    intro m i G1 G2 sc1 sc2 e1 e2 hi hN hB s1_ s2_
    obtain ⟨wt, bs, rfl⟩ := s1_
    obtain ⟨a1, a2, a3, a4, rfl⟩ := s2_
    refine x_iload_n hX dL_law_18 rfl ?_
    refine x_aload_n hX dL_law_19 rfl ?_
    refine hln _ _ _ _ dL_law_20 ?_
    refine x_iconst hX dL_law_21 ?_
    refine x_isub hX dL_law_22 ?_
    refine x_icmp_gt (tgt := 575) hX dL_law_23 (by decide) ⟨by omega, by omega⟩ ⟨by omega, by omega⟩ (fun c1 => ?_) (fun c1 => ?_)
    · refine x_iconst hX dL_law_575 ?_
      exact hret _ _ _ dL_law_576
    have hm : m + 3 < L := by omega
    have hend : ∀ (G1' G2' : Nat → Nat → Int) (t1 t2 : List Int), G1' 0 = G2' 0 → NB (G1' 0) → shp0 t1 → shp1 t2 → X ((G1', t1), (G2', t2)) 569 [.ref b, .ref h1, .ref h2, vI i] [] := by
      intro G1' G2' t1 t2 z1 z2 z3 z4
      refine x_iinc (vs' := [.ref b, .ref h1, .ref h2, vI (i + 4)]) hX dL_law_569 rfl (by decide) rfl ?_
      refine x_goto (tgt := 18) hX dL_law_572 (by decide) ?_
      exact ih (m + 4) _ G1' G2' t1 t2 (by omega) (by omega) (by omega) z1 z2 z3 z4
    have hB2 : NB (G2 0) := by rw [← hN]; exact hB
    obtain ⟨v0, i0, x0⟩ := iI_ex (xs m)
    obtain ⟨v1, i1, x1⟩ := iI_ex (xs (m + 1))
    obtain ⟨v2, i2, x2⟩ := iI_ex (xs (m + 2))
    obtain ⟨v3, i3, x3⟩ := iI_ex (xs (m + 3))
    refine x_aload_n hX dL_law_26 rfl ?_
    refine x_iload_n hX dL_law_27 rfl ?_
    refine hsl _ _ _ _ m _ v0 hi (by omega) x0 dL_law_28 ?_
    refine x_bipush hX dL_law_29 (by decide +kernel) ?_
    obtain ⟨j, hj, ej⟩ := pk_andE (iI v0) (m := iI 15) 4 (by decide +kernel)
    refine x_iand hX dL_law_31 ej ?_
    rcases (show j = 0 ∨ j = 1 ∨ j = 2 ∨ j = 3 ∨ j = 4 ∨ j = 5 ∨ j = 6 ∨ j = 7 ∨ j = 8 ∨ j = 9 ∨ j = 10 ∨ j = 11 ∨ j = 12 ∨ 13 ≤ j by omega) with rfl | rfl | rfl | rfl | rfl | rfl | rfl | rfl | rfl | rfl | rfl | rfl | rfl | h13
    · refine x_tswI (off := 68) (tgt := 100) hX dL_law_32 (by decide +kernel) (by decide +kernel) (by decide +kernel) (by decide) ?_
      refine x_aload_n hX dL_law_100 rfl ?_
      refine x_aload_n hX dL_law_101 rfl ?_
      refine x_iload_n hX dL_law_102 rfl ?_
      refine x_iconst hX dL_law_103 ?_
      refine x_iadd hX dL_law_104 ?_
      refine hsl _ _ _ _ (m + 1) _ v1 (by omega) (by omega) x1 dL_law_105 ?_
      refine x_aload_n hX dL_law_106 rfl ?_
      refine x_iload_n hX dL_law_107 rfl ?_
      refine x_iconst hX dL_law_108 ?_
      refine x_iadd hX dL_law_109 ?_
      refine hsl _ _ _ _ (m + 2) _ v2 (by omega) (by omega) x2 dL_law_110 ?_
      refine x_cL0 hX [vI v1, vI v2] [] (tX0_set l D dA h1 q1 G1 wt bs v1 v2 i1 i2 hB) q80 q81 q82 q25 q83 (show dsc (xR 0) yX0_set 2 by decide +kernel) (by decide) rfl (Nat.le_of_ble_eq_true rfl) dL_law_111 (fun r1 u1 hu1 => ?_)
      obtain ⟨G1', t1⟩ := u1
      obtain ⟨p1, sh1⟩ := hu1
      dsimp only at p1 sh1
      refine x_aload_n hX dL_law_114 rfl ?_
      refine x_aload_n hX dL_law_115 rfl ?_
      refine x_iload_n hX dL_law_116 rfl ?_
      refine x_iconst hX dL_law_117 ?_
      refine x_iadd hX dL_law_118 ?_
      refine hsl _ _ _ _ (m + 1) _ v1 (by omega) (by omega) x1 dL_law_119 ?_
      refine x_aload_n hX dL_law_120 rfl ?_
      refine x_iload_n hX dL_law_121 rfl ?_
      refine x_iconst hX dL_law_122 ?_
      refine x_iadd hX dL_law_123 ?_
      refine hsl _ _ _ _ (m + 2) _ v2 (by omega) (by omega) x2 dL_law_124 ?_
      refine x_cL1 hX [vI v1, vI v2] [vI r1] (tX1_set l D dA h2 q2 G2 a1 a2 a3 a4 v1 v2 i1 i2 hB2) q215 q216 q217 q26 q218 (show dsc (xR 1) yX1_set 2 by decide +kernel) (by decide) rfl (Nat.le_of_ble_eq_true rfl) dL_law_125 (fun r2 u2 hu2 => ?_)
      obtain ⟨G2', t2⟩ := u2
      obtain ⟨p2, sh2⟩ := hu2
      dsimp only at p2 sh2
      rw [← hN] at p2
      have er := RSet.uniq p1 p2
      refine x_icmpr_eq (tgt := 569) hX dL_law_128 (by decide) (fun _ => ?_) (fun z => absurd (by rw [er.1]) z)
      exact hend G1' G2' t1 t2 er.2 (RSet.nb hB p1) sh1 sh2
    · refine x_tswI (off := 101) (tgt := 133) hX dL_law_32 (by decide +kernel) (by decide +kernel) (by decide +kernel) (by decide) ?_
      refine x_aload_n hX dL_law_133 rfl ?_
      refine x_aload_n hX dL_law_134 rfl ?_
      refine x_iload_n hX dL_law_135 rfl ?_
      refine x_iconst hX dL_law_136 ?_
      refine x_iadd hX dL_law_137 ?_
      refine hsl _ _ _ _ (m + 1) _ v1 (by omega) (by omega) x1 dL_law_138 ?_
      refine x_aload_n hX dL_law_139 rfl ?_
      refine x_iload_n hX dL_law_140 rfl ?_
      refine x_iconst hX dL_law_141 ?_
      refine x_iadd hX dL_law_142 ?_
      refine hsl _ _ _ _ (m + 2) _ v2 (by omega) (by omega) x2 dL_law_143 ?_
      refine x_cL0 hX [vI v1, vI v2] [] (tX0_sow l D dA h1 q1 G1 wt bs v1 v2 i1 i2) q87 q88 q89 q25 q90 (show dsc (xR 0) yX0_sow 2 by decide +kernel) (by decide) rfl (Nat.le_of_ble_eq_true rfl) dL_law_144 (fun r1 u1 hu1 => ?_)
      obtain ⟨G1', t1⟩ := u1
      obtain ⟨p1, sh1⟩ := hu1
      dsimp only at p1 sh1
      refine x_aload_n hX dL_law_147 rfl ?_
      refine x_aload_n hX dL_law_148 rfl ?_
      refine x_iload_n hX dL_law_149 rfl ?_
      refine x_iconst hX dL_law_150 ?_
      refine x_iadd hX dL_law_151 ?_
      refine hsl _ _ _ _ (m + 1) _ v1 (by omega) (by omega) x1 dL_law_152 ?_
      refine x_aload_n hX dL_law_153 rfl ?_
      refine x_iload_n hX dL_law_154 rfl ?_
      refine x_iconst hX dL_law_155 ?_
      refine x_iadd hX dL_law_156 ?_
      refine hsl _ _ _ _ (m + 2) _ v2 (by omega) (by omega) x2 dL_law_157 ?_
      refine x_cL1 hX [vI v1, vI v2] [vI r1] (tX1_sow l D dA h2 q2 G2 a1 a2 a3 a4 v1 v2 i1 i2) q223 q224 q225 q26 q226 (show dsc (xR 1) yX1_sow 2 by decide +kernel) (by decide) rfl (Nat.le_of_ble_eq_true rfl) dL_law_158 (fun r2 u2 hu2 => ?_)
      obtain ⟨G2', t2⟩ := u2
      obtain ⟨p2, sh2⟩ := hu2
      dsimp only at p2 sh2
      rw [← hN] at p2
      have er := RSow.uniq p1 p2
      refine x_icmpr_eq (tgt := 569) hX dL_law_161 (by decide) (fun _ => ?_) (fun z => absurd (by rw [er.1]) z)
      exact hend G1' G2' t1 t2 er.2 (RSow.nb hB p1) sh1 sh2
    · refine x_tswI (off := 134) (tgt := 166) hX dL_law_32 (by decide +kernel) (by decide +kernel) (by decide +kernel) (by decide) ?_
      refine x_aload_n hX dL_law_166 rfl ?_
      refine x_aload_n hX dL_law_167 rfl ?_
      refine x_iload_n hX dL_law_168 rfl ?_
      refine x_iconst hX dL_law_169 ?_
      refine x_iadd hX dL_law_170 ?_
      refine hsl _ _ _ _ (m + 1) _ v1 (by omega) (by omega) x1 dL_law_171 ?_
      refine x_cL0 hX [vI v1] [] (tX0_get l D dA h1 q1 G1 wt bs v1 i1) q91 q92 q93 q25 q94 (show dsc (xR 0) yX0_get 1 by decide +kernel) (by decide) rfl (Nat.le_of_ble_eq_true rfl) dL_law_172 (fun r1 u1 hu1 => ?_)
      obtain ⟨G1', t1⟩ := u1
      obtain ⟨p1, n1, sh1⟩ := hu1
      dsimp only at p1 n1 sh1
      refine x_aload_n hX dL_law_175 rfl ?_
      refine x_aload_n hX dL_law_176 rfl ?_
      refine x_iload_n hX dL_law_177 rfl ?_
      refine x_iconst hX dL_law_178 ?_
      refine x_iadd hX dL_law_179 ?_
      refine hsl _ _ _ _ (m + 1) _ v1 (by omega) (by omega) x1 dL_law_180 ?_
      refine x_cL1 hX [vI v1] [vI r1] (tX1_get l D dA h2 q2 G2 a1 a2 a3 a4 v1 i1) q227 q228 q229 q26 q230 (show dsc (xR 1) yX1_get 1 by decide +kernel) (by decide) rfl (Nat.le_of_ble_eq_true rfl) dL_law_181 (fun r2 u2 hu2 => ?_)
      obtain ⟨G2', t2⟩ := u2
      obtain ⟨p2, n2, sh2⟩ := hu2
      dsimp only at p2 n2 sh2
      rw [← hN] at p2
      have er := RGet.uniq p1 p2
      refine x_icmpr_eq (tgt := 569) hX dL_law_184 (by decide) (fun _ => ?_) (fun z => absurd (by rw [er]) z)
      exact hend G1' G2' t1 t2 (by rw [n1, n2]; exact hN) (by rw [n1]; exact hB) sh1 sh2
    · refine x_tswI (off := 157) (tgt := 189) hX dL_law_32 (by decide +kernel) (by decide +kernel) (by decide +kernel) (by decide) ?_
      refine x_aload_n hX dL_law_189 rfl ?_
      refine x_aload_n hX dL_law_190 rfl ?_
      refine x_iload_n hX dL_law_191 rfl ?_
      refine x_iconst hX dL_law_192 ?_
      refine x_iadd hX dL_law_193 ?_
      refine hsl _ _ _ _ (m + 1) _ v1 (by omega) (by omega) x1 dL_law_194 ?_
      refine x_aload_n hX dL_law_195 rfl ?_
      refine x_iload_n hX dL_law_196 rfl ?_
      refine x_iconst hX dL_law_197 ?_
      refine x_iadd hX dL_law_198 ?_
      refine hsl _ _ _ _ (m + 2) _ v2 (by omega) (by omega) x2 dL_law_199 ?_
      refine x_cL0 hX [vI v1, vI v2] [] (tX0_result l D dA h1 q1 G1 wt bs v1 v2 i1 i2 hB) q95 q96 q97 q25 q98 (show dsc (xR 0) yX0_result 2 by decide +kernel) (by decide) rfl (Nat.le_of_ble_eq_true rfl) dL_law_200 (fun r1 u1 hu1 => ?_)
      obtain ⟨G1', t1⟩ := u1
      obtain ⟨p1, n1, sh1⟩ := hu1
      dsimp only at p1 n1 sh1
      refine x_aload_n hX dL_law_203 rfl ?_
      refine x_aload_n hX dL_law_204 rfl ?_
      refine x_iload_n hX dL_law_205 rfl ?_
      refine x_iconst hX dL_law_206 ?_
      refine x_iadd hX dL_law_207 ?_
      refine hsl _ _ _ _ (m + 1) _ v1 (by omega) (by omega) x1 dL_law_208 ?_
      refine x_aload_n hX dL_law_209 rfl ?_
      refine x_iload_n hX dL_law_210 rfl ?_
      refine x_iconst hX dL_law_211 ?_
      refine x_iadd hX dL_law_212 ?_
      refine hsl _ _ _ _ (m + 2) _ v2 (by omega) (by omega) x2 dL_law_213 ?_
      refine x_cL1 hX [vI v1, vI v2] [vI r1] (tX1_result l D dA h2 q2 G2 a1 a2 a3 a4 v1 v2 i1 i2 hB2) q231 q232 q233 q26 q234 (show dsc (xR 1) yX1_result 2 by decide +kernel) (by decide) rfl (Nat.le_of_ble_eq_true rfl) dL_law_214 (fun r2 u2 hu2 => ?_)
      obtain ⟨G2', t2⟩ := u2
      obtain ⟨p2, n2, sh2⟩ := hu2
      dsimp only at p2 n2 sh2
      rw [← hN] at p2
      have er := RRes.uniq p1 p2
      refine x_icmpr_eq (tgt := 569) hX dL_law_217 (by decide) (fun _ => ?_) (fun z => absurd (by rw [er]) z)
      exact hend G1' G2' t1 t2 (by rw [n1, n2]; exact hN) (by rw [n1]; exact hB) sh1 sh2
    · refine x_tswI (off := 190) (tgt := 222) hX dL_law_32 (by decide +kernel) (by decide +kernel) (by decide +kernel) (by decide) ?_
      refine x_aload_n hX dL_law_222 rfl ?_
      refine x_aload_n hX dL_law_223 rfl ?_
      refine x_iload_n hX dL_law_224 rfl ?_
      refine x_iconst hX dL_law_225 ?_
      refine x_iadd hX dL_law_226 ?_
      refine hsl _ _ _ _ (m + 1) _ v1 (by omega) (by omega) x1 dL_law_227 ?_
      refine x_aload_n hX dL_law_228 rfl ?_
      refine x_iload_n hX dL_law_229 rfl ?_
      refine x_iconst hX dL_law_230 ?_
      refine x_iadd hX dL_law_231 ?_
      refine hsl _ _ _ _ (m + 2) _ v2 (by omega) (by omega) x2 dL_law_232 ?_
      refine x_aload_n hX dL_law_233 rfl ?_
      refine x_iload_n hX dL_law_234 rfl ?_
      refine x_iconst hX dL_law_235 ?_
      refine x_iadd hX dL_law_236 ?_
      refine hsl _ _ _ _ (m + 3) _ v3 (by omega) (by omega) x3 dL_law_237 ?_
      refine x_cL0 hX [vI v1, vI v2, vI v3] [] (tX0_unit l D dA h1 q1 G1 wt bs v1 v2 v3 i1 i2 i3 hB) q107 q108 q109 q25 q110 (show dsc (xR 0) yX0_unit 3 by decide +kernel) (by decide) rfl (Nat.le_of_ble_eq_true rfl) dL_law_238 (fun r1 u1 hu1 => ?_)
      obtain ⟨G1', t1⟩ := u1
      obtain ⟨p1, n1, sh1⟩ := hu1
      dsimp only at p1 n1 sh1
      refine x_aload_n hX dL_law_241 rfl ?_
      refine x_aload_n hX dL_law_242 rfl ?_
      refine x_iload_n hX dL_law_243 rfl ?_
      refine x_iconst hX dL_law_244 ?_
      refine x_iadd hX dL_law_245 ?_
      refine hsl _ _ _ _ (m + 1) _ v1 (by omega) (by omega) x1 dL_law_246 ?_
      refine x_aload_n hX dL_law_247 rfl ?_
      refine x_iload_n hX dL_law_248 rfl ?_
      refine x_iconst hX dL_law_249 ?_
      refine x_iadd hX dL_law_250 ?_
      refine hsl _ _ _ _ (m + 2) _ v2 (by omega) (by omega) x2 dL_law_251 ?_
      refine x_aload_n hX dL_law_252 rfl ?_
      refine x_iload_n hX dL_law_253 rfl ?_
      refine x_iconst hX dL_law_254 ?_
      refine x_iadd hX dL_law_255 ?_
      refine hsl _ _ _ _ (m + 3) _ v3 (by omega) (by omega) x3 dL_law_256 ?_
      refine x_cL1 hX [vI v1, vI v2, vI v3] [vI r1] (tX1_unit l D dA h2 q2 G2 a1 a2 a3 a4 v1 v2 v3 i1 i2 i3 hB2) q256 q257 q258 q26 q259 (show dsc (xR 1) yX1_unit 3 by decide +kernel) (by decide) rfl (Nat.le_of_ble_eq_true rfl) dL_law_257 (fun r2 u2 hu2 => ?_)
      obtain ⟨G2', t2⟩ := u2
      obtain ⟨p2, n2, sh2⟩ := hu2
      dsimp only at p2 n2 sh2
      rw [← hN] at p2
      have er := RUnit.uniq p1 p2
      refine x_icmpr_eq (tgt := 569) hX dL_law_260 (by decide) (fun _ => ?_) (fun z => absurd (by rw [er]) z)
      exact hend G1' G2' t1 t2 (by rw [n1, n2]; exact hN) (by rw [n1]; exact hB) sh1 sh2
    · refine x_tswI (off := 233) (tgt := 265) hX dL_law_32 (by decide +kernel) (by decide +kernel) (by decide +kernel) (by decide) ?_
      refine x_aload_n hX dL_law_265 rfl ?_
      refine x_aload_n hX dL_law_266 rfl ?_
      refine x_iload_n hX dL_law_267 rfl ?_
      refine x_iconst hX dL_law_268 ?_
      refine x_iadd hX dL_law_269 ?_
      refine hsl _ _ _ _ (m + 1) _ v1 (by omega) (by omega) x1 dL_law_270 ?_
      refine x_aload_n hX dL_law_271 rfl ?_
      refine x_iload_n hX dL_law_272 rfl ?_
      refine x_iconst hX dL_law_273 ?_
      refine x_iadd hX dL_law_274 ?_
      refine hsl _ _ _ _ (m + 2) _ v2 (by omega) (by omega) x2 dL_law_275 ?_
      refine x_cL0 hX [vI v1, vI v2] [] (tX0_most l D dA h1 q1 G1 wt bs v1 v2 i1 i2 hB) q111 q112 q113 q25 q114 (show dsc (xR 0) yX0_most 2 by decide +kernel) (by decide) rfl (Nat.le_of_ble_eq_true rfl) dL_law_276 (fun r1 u1 hu1 => ?_)
      obtain ⟨G1', t1⟩ := u1
      obtain ⟨p1, n1, sh1⟩ := hu1
      dsimp only at p1 n1 sh1
      refine x_aload_n hX dL_law_279 rfl ?_
      refine x_aload_n hX dL_law_280 rfl ?_
      refine x_iload_n hX dL_law_281 rfl ?_
      refine x_iconst hX dL_law_282 ?_
      refine x_iadd hX dL_law_283 ?_
      refine hsl _ _ _ _ (m + 1) _ v1 (by omega) (by omega) x1 dL_law_284 ?_
      refine x_aload_n hX dL_law_285 rfl ?_
      refine x_iload_n hX dL_law_286 rfl ?_
      refine x_iconst hX dL_law_287 ?_
      refine x_iadd hX dL_law_288 ?_
      refine hsl _ _ _ _ (m + 2) _ v2 (by omega) (by omega) x2 dL_law_289 ?_
      refine x_cL1 hX [vI v1, vI v2] [vI r1] (tX1_most l D dA h2 q2 G2 a1 a2 a3 a4 v1 v2 i1 i2 hB2) q264 q265 q266 q26 q267 (show dsc (xR 1) yX1_most 2 by decide +kernel) (by decide) rfl (Nat.le_of_ble_eq_true rfl) dL_law_290 (fun r2 u2 hu2 => ?_)
      obtain ⟨G2', t2⟩ := u2
      obtain ⟨p2, n2, sh2⟩ := hu2
      dsimp only at p2 n2 sh2
      rw [← hN] at p2
      have er := RBox.uniq (fun _ _ _ _ _ _ _ _ _ _ => Mx.uniq) p1 p2
      refine x_icmpr_eq (tgt := 569) hX dL_law_293 (by decide) (fun _ => ?_) (fun z => absurd (by rw [er]) z)
      exact hend G1' G2' t1 t2 (by rw [n1, n2]; exact hN) (by rw [n1]; exact hB) sh1 sh2
    · refine x_tswI (off := 266) (tgt := 298) hX dL_law_32 (by decide +kernel) (by decide +kernel) (by decide +kernel) (by decide) ?_
      refine x_aload_n hX dL_law_298 rfl ?_
      refine x_aload_n hX dL_law_299 rfl ?_
      refine x_iload_n hX dL_law_300 rfl ?_
      refine x_iconst hX dL_law_301 ?_
      refine x_iadd hX dL_law_302 ?_
      refine hsl _ _ _ _ (m + 1) _ v1 (by omega) (by omega) x1 dL_law_303 ?_
      refine x_aload_n hX dL_law_304 rfl ?_
      refine x_iload_n hX dL_law_305 rfl ?_
      refine x_iconst hX dL_law_306 ?_
      refine x_iadd hX dL_law_307 ?_
      refine hsl _ _ _ _ (m + 2) _ v2 (by omega) (by omega) x2 dL_law_308 ?_
      refine x_cL0 hX [vI v1, vI v2] [] (tX0_least l D dA h1 q1 G1 wt bs v1 v2 i1 i2 hB) q154 q155 q156 q25 q157 (show dsc (xR 0) yX0_least 2 by decide +kernel) (by decide) rfl (Nat.le_of_ble_eq_true rfl) dL_law_309 (fun r1 u1 hu1 => ?_)
      obtain ⟨G1', t1⟩ := u1
      obtain ⟨p1, n1, sh1⟩ := hu1
      dsimp only at p1 n1 sh1
      refine x_aload_n hX dL_law_312 rfl ?_
      refine x_aload_n hX dL_law_313 rfl ?_
      refine x_iload_n hX dL_law_314 rfl ?_
      refine x_iconst hX dL_law_315 ?_
      refine x_iadd hX dL_law_316 ?_
      refine hsl _ _ _ _ (m + 1) _ v1 (by omega) (by omega) x1 dL_law_317 ?_
      refine x_aload_n hX dL_law_318 rfl ?_
      refine x_iload_n hX dL_law_319 rfl ?_
      refine x_iconst hX dL_law_320 ?_
      refine x_iadd hX dL_law_321 ?_
      refine hsl _ _ _ _ (m + 2) _ v2 (by omega) (by omega) x2 dL_law_322 ?_
      refine x_cL1 hX [vI v1, vI v2] [vI r1] (tX1_least l D dA h2 q2 G2 a1 a2 a3 a4 v1 v2 i1 i2 hB2) q280 q281 q282 q26 q283 (show dsc (xR 1) yX1_least 2 by decide +kernel) (by decide) rfl (Nat.le_of_ble_eq_true rfl) dL_law_323 (fun r2 u2 hu2 => ?_)
      obtain ⟨G2', t2⟩ := u2
      obtain ⟨p2, n2, sh2⟩ := hu2
      dsimp only at p2 n2 sh2
      rw [← hN] at p2
      have er := RBox.uniq (fun _ _ _ _ _ _ _ _ _ _ => Mn.uniq) p1 p2
      refine x_icmpr_eq (tgt := 569) hX dL_law_326 (by decide) (fun _ => ?_) (fun z => absurd (by rw [er]) z)
      exact hend G1' G2' t1 t2 (by rw [n1, n2]; exact hN) (by rw [n1]; exact hB) sh1 sh2
    · refine x_tswI (off := 299) (tgt := 331) hX dL_law_32 (by decide +kernel) (by decide +kernel) (by decide +kernel) (by decide) ?_
      refine x_aload_n hX dL_law_331 rfl ?_
      refine x_aload_n hX dL_law_332 rfl ?_
      refine x_iload_n hX dL_law_333 rfl ?_
      refine x_iconst hX dL_law_334 ?_
      refine x_iadd hX dL_law_335 ?_
      refine hsl _ _ _ _ (m + 1) _ v1 (by omega) (by omega) x1 dL_law_336 ?_
      refine x_aload_n hX dL_law_337 rfl ?_
      refine x_iload_n hX dL_law_338 rfl ?_
      refine x_iconst hX dL_law_339 ?_
      refine x_iadd hX dL_law_340 ?_
      refine hsl _ _ _ _ (m + 2) _ v2 (by omega) (by omega) x2 dL_law_341 ?_
      refine x_cL0 hX [vI v1, vI v2] [] (tX0_mostAt l D dA h1 q1 G1 wt bs v1 v2 i1 i2 hB) q158 q159 q160 q25 q161 (show dsc (xR 0) yX0_mostAt 2 by decide +kernel) (by decide) rfl (Nat.le_of_ble_eq_true rfl) dL_law_342 (fun r1 u1 hu1 => ?_)
      obtain ⟨G1', t1⟩ := u1
      obtain ⟨p1, n1, sh1⟩ := hu1
      dsimp only at p1 n1 sh1
      refine x_aload_n hX dL_law_345 rfl ?_
      refine x_aload_n hX dL_law_346 rfl ?_
      refine x_iload_n hX dL_law_347 rfl ?_
      refine x_iconst hX dL_law_348 ?_
      refine x_iadd hX dL_law_349 ?_
      refine hsl _ _ _ _ (m + 1) _ v1 (by omega) (by omega) x1 dL_law_350 ?_
      refine x_aload_n hX dL_law_351 rfl ?_
      refine x_iload_n hX dL_law_352 rfl ?_
      refine x_iconst hX dL_law_353 ?_
      refine x_iadd hX dL_law_354 ?_
      refine hsl _ _ _ _ (m + 2) _ v2 (by omega) (by omega) x2 dL_law_355 ?_
      refine x_cL1 hX [vI v1, vI v2] [vI r1] (tX1_mostAt l D dA h2 q2 G2 a1 a2 a3 a4 v1 v2 i1 i2 hB2) q284 q285 q286 q26 q287 (show dsc (xR 1) yX1_mostAt 2 by decide +kernel) (by decide) rfl (Nat.le_of_ble_eq_true rfl) dL_law_356 (fun r2 u2 hu2 => ?_)
      obtain ⟨G2', t2⟩ := u2
      obtain ⟨p2, n2, sh2⟩ := hu2
      dsimp only at p2 n2 sh2
      rw [← hN] at p2
      have er := RBox.uniq QMostAt.uniq p1 p2
      refine x_icmpr_eq (tgt := 569) hX dL_law_359 (by decide) (fun _ => ?_) (fun z => absurd (by rw [er]) z)
      exact hend G1' G2' t1 t2 (by rw [n1, n2]; exact hN) (by rw [n1]; exact hB) sh1 sh2
    · refine x_tswI (off := 332) (tgt := 364) hX dL_law_32 (by decide +kernel) (by decide +kernel) (by decide +kernel) (by decide) ?_
      refine x_aload_n hX dL_law_364 rfl ?_
      refine x_aload_n hX dL_law_365 rfl ?_
      refine x_iload_n hX dL_law_366 rfl ?_
      refine x_iconst hX dL_law_367 ?_
      refine x_iadd hX dL_law_368 ?_
      refine hsl _ _ _ _ (m + 1) _ v1 (by omega) (by omega) x1 dL_law_369 ?_
      refine x_aload_n hX dL_law_370 rfl ?_
      refine x_iload_n hX dL_law_371 rfl ?_
      refine x_iconst hX dL_law_372 ?_
      refine x_iadd hX dL_law_373 ?_
      refine hsl _ _ _ _ (m + 2) _ v2 (by omega) (by omega) x2 dL_law_374 ?_
      refine x_aload_n hX dL_law_375 rfl ?_
      refine x_iload_n hX dL_law_376 rfl ?_
      refine x_iconst hX dL_law_377 ?_
      refine x_iadd hX dL_law_378 ?_
      refine hsl _ _ _ _ (m + 3) _ v3 (by omega) (by omega) x3 dL_law_379 ?_
      refine x_cL0 hX [vI v1, vI v2, vI v3] [] (tX0_safe l D dA h1 q1 G1 wt bs v1 v2 v3 i1 i2 i3 hB) q166 q167 q168 q25 q169 (show dsc (xR 0) yX0_safe 3 by decide +kernel) (by decide) rfl (Nat.le_of_ble_eq_true rfl) dL_law_380 (fun r1 u1 hu1 => ?_)
      obtain ⟨G1', t1⟩ := u1
      obtain ⟨p1, n1, sh1⟩ := hu1
      dsimp only at p1 n1 sh1
      refine x_aload_n hX dL_law_383 rfl ?_
      refine x_aload_n hX dL_law_384 rfl ?_
      refine x_iload_n hX dL_law_385 rfl ?_
      refine x_iconst hX dL_law_386 ?_
      refine x_iadd hX dL_law_387 ?_
      refine hsl _ _ _ _ (m + 1) _ v1 (by omega) (by omega) x1 dL_law_388 ?_
      refine x_aload_n hX dL_law_389 rfl ?_
      refine x_iload_n hX dL_law_390 rfl ?_
      refine x_iconst hX dL_law_391 ?_
      refine x_iadd hX dL_law_392 ?_
      refine hsl _ _ _ _ (m + 2) _ v2 (by omega) (by omega) x2 dL_law_393 ?_
      refine x_aload_n hX dL_law_394 rfl ?_
      refine x_iload_n hX dL_law_395 rfl ?_
      refine x_iconst hX dL_law_396 ?_
      refine x_iadd hX dL_law_397 ?_
      refine hsl _ _ _ _ (m + 3) _ v3 (by omega) (by omega) x3 dL_law_398 ?_
      refine x_cL1 hX [vI v1, vI v2, vI v3] [vI r1] (tX1_safe l D dA h2 q2 G2 a1 a2 a3 a4 v1 v2 v3 i1 i2 i3 hB2) q292 q293 q294 q26 q295 (show dsc (xR 1) yX1_safe 3 by decide +kernel) (by decide) rfl (Nat.le_of_ble_eq_true rfl) dL_law_399 (fun r2 u2 hu2 => ?_)
      obtain ⟨G2', t2⟩ := u2
      obtain ⟨p2, n2, sh2⟩ := hu2
      dsimp only at p2 n2 sh2
      rw [← hN] at p2
      have er := RBox.uniq QSafe.uniq p1 p2
      refine x_icmpr_eq (tgt := 569) hX dL_law_402 (by decide) (fun _ => ?_) (fun z => absurd (by rw [er]) z)
      exact hend G1' G2' t1 t2 (by rw [n1, n2]; exact hN) (by rw [n1]; exact hB) sh1 sh2
    · refine x_tswI (off := 375) (tgt := 407) hX dL_law_32 (by decide +kernel) (by decide +kernel) (by decide +kernel) (by decide) ?_
      refine x_aload_n hX dL_law_407 rfl ?_
      refine x_aload_n hX dL_law_408 rfl ?_
      refine x_iload_n hX dL_law_409 rfl ?_
      refine x_iconst hX dL_law_410 ?_
      refine x_iadd hX dL_law_411 ?_
      refine hsl _ _ _ _ (m + 1) _ v1 (by omega) (by omega) x1 dL_law_412 ?_
      refine x_aload_n hX dL_law_413 rfl ?_
      refine x_iload_n hX dL_law_414 rfl ?_
      refine x_iconst hX dL_law_415 ?_
      refine x_iadd hX dL_law_416 ?_
      refine hsl _ _ _ _ (m + 2) _ v2 (by omega) (by omega) x2 dL_law_417 ?_
      refine x_aload_n hX dL_law_418 rfl ?_
      refine x_iload_n hX dL_law_419 rfl ?_
      refine x_iconst hX dL_law_420 ?_
      refine x_iadd hX dL_law_421 ?_
      refine hsl _ _ _ _ (m + 3) _ v3 (by omega) (by omega) x3 dL_law_422 ?_
      refine x_cL0 hX [vI v1, vI v2, vI v3] [] (tX0_breach l D dA h1 q1 G1 wt bs v1 v2 v3 i1 i2 i3 hB) q170 q171 q172 q25 q173 (show dsc (xR 0) yX0_breach 3 by decide +kernel) (by decide) rfl (Nat.le_of_ble_eq_true rfl) dL_law_423 (fun r1 u1 hu1 => ?_)
      obtain ⟨G1', t1⟩ := u1
      obtain ⟨p1, n1, sh1⟩ := hu1
      dsimp only at p1 n1 sh1
      refine x_aload_n hX dL_law_426 rfl ?_
      refine x_aload_n hX dL_law_427 rfl ?_
      refine x_iload_n hX dL_law_428 rfl ?_
      refine x_iconst hX dL_law_429 ?_
      refine x_iadd hX dL_law_430 ?_
      refine hsl _ _ _ _ (m + 1) _ v1 (by omega) (by omega) x1 dL_law_431 ?_
      refine x_aload_n hX dL_law_432 rfl ?_
      refine x_iload_n hX dL_law_433 rfl ?_
      refine x_iconst hX dL_law_434 ?_
      refine x_iadd hX dL_law_435 ?_
      refine hsl _ _ _ _ (m + 2) _ v2 (by omega) (by omega) x2 dL_law_436 ?_
      refine x_aload_n hX dL_law_437 rfl ?_
      refine x_iload_n hX dL_law_438 rfl ?_
      refine x_iconst hX dL_law_439 ?_
      refine x_iadd hX dL_law_440 ?_
      refine hsl _ _ _ _ (m + 3) _ v3 (by omega) (by omega) x3 dL_law_441 ?_
      refine x_cL1 hX [vI v1, vI v2, vI v3] [vI r1] (tX1_breach l D dA h2 q2 G2 a1 a2 a3 a4 v1 v2 v3 i1 i2 i3 hB2) q296 q297 q298 q26 q299 (show dsc (xR 1) yX1_breach 3 by decide +kernel) (by decide) rfl (Nat.le_of_ble_eq_true rfl) dL_law_442 (fun r2 u2 hu2 => ?_)
      obtain ⟨G2', t2⟩ := u2
      obtain ⟨p2, n2, sh2⟩ := hu2
      dsimp only at p2 n2 sh2
      rw [← hN] at p2
      have er := RBox.uniq QBreach.uniq p1 p2
      refine x_icmpr_eq (tgt := 569) hX dL_law_445 (by decide) (fun _ => ?_) (fun z => absurd (by rw [er]) z)
      exact hend G1' G2' t1 t2 (by rw [n1, n2]; exact hN) (by rw [n1]; exact hB) sh1 sh2
    · refine x_tswI (off := 418) (tgt := 450) hX dL_law_32 (by decide +kernel) (by decide +kernel) (by decide +kernel) (by decide) ?_
      refine x_aload_n hX dL_law_450 rfl ?_
      refine x_aload_n hX dL_law_451 rfl ?_
      refine x_iload_n hX dL_law_452 rfl ?_
      refine x_iconst hX dL_law_453 ?_
      refine x_iadd hX dL_law_454 ?_
      refine hsl _ _ _ _ (m + 1) _ v1 (by omega) (by omega) x1 dL_law_455 ?_
      refine x_aload_n hX dL_law_456 rfl ?_
      refine x_iload_n hX dL_law_457 rfl ?_
      refine x_iconst hX dL_law_458 ?_
      refine x_iadd hX dL_law_459 ?_
      refine hsl _ _ _ _ (m + 2) _ v2 (by omega) (by omega) x2 dL_law_460 ?_
      refine x_aload_n hX dL_law_461 rfl ?_
      refine x_iload_n hX dL_law_462 rfl ?_
      refine x_iconst hX dL_law_463 ?_
      refine x_iadd hX dL_law_464 ?_
      refine hsl _ _ _ _ (m + 3) _ v3 (by omega) (by omega) x3 dL_law_465 ?_
      refine x_cL0 hX [vI v1, vI v2, vI v3] [] (tX0_fixed l D dA h1 q1 G1 wt bs v1 v2 v3 i1 i2 i3 hB) q174 q175 q176 q25 q177 (show dsc (xR 0) yX0_fixed 3 by decide +kernel) (by decide) rfl (Nat.le_of_ble_eq_true rfl) dL_law_466 (fun r1 u1 hu1 => ?_)
      obtain ⟨G1', t1⟩ := u1
      obtain ⟨p1, n1, sh1⟩ := hu1
      dsimp only at p1 n1 sh1
      refine x_aload_n hX dL_law_469 rfl ?_
      refine x_aload_n hX dL_law_470 rfl ?_
      refine x_iload_n hX dL_law_471 rfl ?_
      refine x_iconst hX dL_law_472 ?_
      refine x_iadd hX dL_law_473 ?_
      refine hsl _ _ _ _ (m + 1) _ v1 (by omega) (by omega) x1 dL_law_474 ?_
      refine x_aload_n hX dL_law_475 rfl ?_
      refine x_iload_n hX dL_law_476 rfl ?_
      refine x_iconst hX dL_law_477 ?_
      refine x_iadd hX dL_law_478 ?_
      refine hsl _ _ _ _ (m + 2) _ v2 (by omega) (by omega) x2 dL_law_479 ?_
      refine x_aload_n hX dL_law_480 rfl ?_
      refine x_iload_n hX dL_law_481 rfl ?_
      refine x_iconst hX dL_law_482 ?_
      refine x_iadd hX dL_law_483 ?_
      refine hsl _ _ _ _ (m + 3) _ v3 (by omega) (by omega) x3 dL_law_484 ?_
      refine x_cL1 hX [vI v1, vI v2, vI v3] [vI r1] (tX1_fixed l D dA h2 q2 G2 a1 a2 a3 a4 v1 v2 v3 i1 i2 i3 hB2) q300 q301 q302 q26 q303 (show dsc (xR 1) yX1_fixed 3 by decide +kernel) (by decide) rfl (Nat.le_of_ble_eq_true rfl) dL_law_485 (fun r2 u2 hu2 => ?_)
      obtain ⟨G2', t2⟩ := u2
      obtain ⟨p2, n2, sh2⟩ := hu2
      dsimp only at p2 n2 sh2
      rw [← hN] at p2
      have er := RFixed.uniq p1 p2
      refine x_icmpr_eq (tgt := 569) hX dL_law_488 (by decide) (fun _ => ?_) (fun z => absurd (by rw [er]) z)
      exact hend G1' G2' t1 t2 (by rw [n1, n2]; exact hN) (by rw [n1]; exact hB) sh1 sh2
    · refine x_tswI (off := 461) (tgt := 493) hX dL_law_32 (by decide +kernel) (by decide +kernel) (by decide +kernel) (by decide) ?_
      refine x_aload_n hX dL_law_493 rfl ?_
      refine x_aload_n hX dL_law_494 rfl ?_
      refine x_iload_n hX dL_law_495 rfl ?_
      refine x_iconst hX dL_law_496 ?_
      refine x_iadd hX dL_law_497 ?_
      refine hsl _ _ _ _ (m + 1) _ v1 (by omega) (by omega) x1 dL_law_498 ?_
      refine x_aload_n hX dL_law_499 rfl ?_
      refine x_iload_n hX dL_law_500 rfl ?_
      refine x_iconst hX dL_law_501 ?_
      refine x_iadd hX dL_law_502 ?_
      refine hsl _ _ _ _ (m + 2) _ v2 (by omega) (by omega) x2 dL_law_503 ?_
      refine x_aload_n hX dL_law_504 rfl ?_
      refine x_iload_n hX dL_law_505 rfl ?_
      refine x_iconst hX dL_law_506 ?_
      refine x_iadd hX dL_law_507 ?_
      refine hsl _ _ _ _ (m + 3) _ v3 (by omega) (by omega) x3 dL_law_508 ?_
      refine x_cL0 hX [vI v1, vI v2, vI v3] [] (tX0_radius l D dA h1 q1 G1 wt bs v1 v2 v3 i1 i2 i3 hB) q178 q179 q180 q25 q181 (show dsc (xR 0) yX0_radius 3 by decide +kernel) (by decide) rfl (Nat.le_of_ble_eq_true rfl) dL_law_509 (fun r1 u1 hu1 => ?_)
      obtain ⟨G1', t1⟩ := u1
      obtain ⟨p1, n1, sh1⟩ := hu1
      dsimp only at p1 n1 sh1
      refine x_aload_n hX dL_law_512 rfl ?_
      refine x_aload_n hX dL_law_513 rfl ?_
      refine x_iload_n hX dL_law_514 rfl ?_
      refine x_iconst hX dL_law_515 ?_
      refine x_iadd hX dL_law_516 ?_
      refine hsl _ _ _ _ (m + 1) _ v1 (by omega) (by omega) x1 dL_law_517 ?_
      refine x_aload_n hX dL_law_518 rfl ?_
      refine x_iload_n hX dL_law_519 rfl ?_
      refine x_iconst hX dL_law_520 ?_
      refine x_iadd hX dL_law_521 ?_
      refine hsl _ _ _ _ (m + 2) _ v2 (by omega) (by omega) x2 dL_law_522 ?_
      refine x_aload_n hX dL_law_523 rfl ?_
      refine x_iload_n hX dL_law_524 rfl ?_
      refine x_iconst hX dL_law_525 ?_
      refine x_iadd hX dL_law_526 ?_
      refine hsl _ _ _ _ (m + 3) _ v3 (by omega) (by omega) x3 dL_law_527 ?_
      refine x_cL1 hX [vI v1, vI v2, vI v3] [vI r1] (tX1_radius l D dA h2 q2 G2 a1 a2 a3 a4 v1 v2 v3 i1 i2 i3 hB2) q304 q305 q306 q26 q307 (show dsc (xR 1) yX1_radius 3 by decide +kernel) (by decide) rfl (Nat.le_of_ble_eq_true rfl) dL_law_528 (fun r2 u2 hu2 => ?_)
      obtain ⟨G2', t2⟩ := u2
      obtain ⟨p2, n2, sh2⟩ := hu2
      dsimp only at p2 n2 sh2
      rw [← hN] at p2
      have er := RRad.uniq p1 p2
      refine x_icmpr_eq (tgt := 569) hX dL_law_531 (by decide) (fun _ => ?_) (fun z => absurd (by rw [er]) z)
      exact hend G1' G2' t1 t2 (by rw [n1, n2]; exact hN) (by rw [n1]; exact hB) sh1 sh2
    · refine x_tswI (off := 504) (tgt := 536) hX dL_law_32 (by decide +kernel) (by decide +kernel) (by decide +kernel) (by decide) ?_
      refine x_aload_n hX dL_law_536 rfl ?_
      refine x_aload_n hX dL_law_537 rfl ?_
      refine x_iload_n hX dL_law_538 rfl ?_
      refine x_iconst hX dL_law_539 ?_
      refine x_iadd hX dL_law_540 ?_
      refine hsl _ _ _ _ (m + 1) _ v1 (by omega) (by omega) x1 dL_law_541 ?_
      refine x_aload_n hX dL_law_542 rfl ?_
      refine x_iload_n hX dL_law_543 rfl ?_
      refine x_iconst hX dL_law_544 ?_
      refine x_iadd hX dL_law_545 ?_
      refine hsl _ _ _ _ (m + 2) _ v2 (by omega) (by omega) x2 dL_law_546 ?_
      refine x_cL0 hX [vI v1, vI v2] [] (tX0_patterns l D dA h1 q1 G1 wt bs v1 v2 i1 i2 hB) q185 q186 q187 q25 q188 (show dsc (xR 0) yX0_patterns 2 by decide +kernel) (by decide) rfl (Nat.le_of_ble_eq_true rfl) dL_law_547 (fun r1 u1 hu1 => ?_)
      obtain ⟨G1', t1⟩ := u1
      obtain ⟨p1, n1, sh1⟩ := hu1
      dsimp only at p1 n1 sh1
      refine x_aload_n hX dL_law_550 rfl ?_
      refine x_aload_n hX dL_law_551 rfl ?_
      refine x_iload_n hX dL_law_552 rfl ?_
      refine x_iconst hX dL_law_553 ?_
      refine x_iadd hX dL_law_554 ?_
      refine hsl _ _ _ _ (m + 1) _ v1 (by omega) (by omega) x1 dL_law_555 ?_
      refine x_aload_n hX dL_law_556 rfl ?_
      refine x_iload_n hX dL_law_557 rfl ?_
      refine x_iconst hX dL_law_558 ?_
      refine x_iadd hX dL_law_559 ?_
      refine hsl _ _ _ _ (m + 2) _ v2 (by omega) (by omega) x2 dL_law_560 ?_
      refine x_cL1 hX [vI v1, vI v2] [vI r1] (tX1_patterns l D dA h2 q2 G2 a1 a2 a3 a4 v1 v2 i1 i2 hB2) q308 q309 q310 q26 q311 (show dsc (xR 1) yX1_patterns 2 by decide +kernel) (by decide) rfl (Nat.le_of_ble_eq_true rfl) dL_law_561 (fun r2 u2 hu2 => ?_)
      obtain ⟨G2', t2⟩ := u2
      obtain ⟨p2, n2, sh2⟩ := hu2
      dsimp only at p2 n2 sh2
      have p1 : RBox (Cnt (G1 0)) (-1) v1 v2 r1 := by rcases p1 with ⟨z1, z2⟩ | ⟨z1, z2, z3⟩; exact Or.inl ⟨z2, z1⟩; exact Or.inr ⟨z1, z2, z3⟩
      rw [← hN] at p2
      have er := RBox.uniq (fun _ _ _ _ _ _ _ _ _ _ => Cnt.uniq) p1 p2
      refine x_icmpr_eq (tgt := 569) hX dL_law_564 (by decide) (fun _ => ?_) (fun z => absurd (by rw [er]) z)
      exact hend G1' G2' t1 t2 (by rw [n1, n2]; exact hN) (by rw [n1]; exact hB) sh1 sh2
    · refine x_tswO (tgt := 569) hX dL_law_32 (Or.inr (by rw [nI_toInt (by omega)]; omega)) (by decide) ?_
      exact hend G1 G2 _ _ hN hB ⟨_, _, rfl⟩ ⟨_, _, _, _, rfl⟩
end
section
set_option maxRecDepth 100000
theorem dA_known {s : State} {args : Array Value} (hts : ∀ w ∈ lw_all, w.before args s = true) : ∃ dA : Bool → ClassId, ∀ (k : Nat) (q : ClassId × FieldType), (tyL dA)[k]? = some q → ArrOfT s q.1 q.2 ∧ va_RA s q.1 q.2 := by
  obtain ⟨c0, k0, comp0, a1, a2, a3⟩ := Cond.arrayClass_spec (hts _ q78)
  obtain ⟨c1, k1, comp1, b1, b2, b3⟩ := Cond.arrayClass_spec (hts _ q79)
  refine ⟨fun b => if b = true then c1 else c0, fun k q hq => ?_⟩
  match k, hq with
  | 0, hq =>
    cases hq
    exact ⟨fun n z => ⟨fun k h => (by cases h), k0, a2, comp0, a3⟩, a1⟩
  | 1, hq =>
    cases hq
    exact ⟨fun n z => ⟨fun k h => (by cases h), k1, b2, comp1, b3⟩, b1⟩
  | k + 2, hq => simp at hq
set_option maxHeartbeats 8000000 in
/-- THE LAW, from its entry -/
theorem whole_start {p : Program} {e : Env} {s : State} {m : MethodId} {below : List Frame} {meth : Method} {c : Code} (l : Launch) {b L : Nat} {xs : Nat → Int32} (hL : L ≤ 256) (C0 : lw_At p s m meth c b L xs) : W p l e room_1 s m #[Value.ref b] below meth c s.heap [] 0 0 (lw_Z below #[Value.ref b] s) (entryFrame m ([Value.ref b] : List Value).toArray 4) := by
  obtain ⟨hx, hb, hr, hml, hown, hts0, hX, hbl, hlocks, hgv⟩ := id C0
  have hts : ∀ w ∈ lw_all, w.before #[Value.ref b] s = true := fun w h => hts0 w (lw_all_tbl h)
  obtain ⟨A, hAe⟩ : ∃ A : Nat → Prop, A = fun q => s.heap.size ≤ q := ⟨_, rfl⟩
  have hA : ∀ q : Nat, s.heap.size ≤ q → A q := fun q h => by rw [hAe]; exact h
  have hbA : ¬ A b := by rw [hAe]; exact Nat.not_le.mpr hbl
  obtain ⟨c0, iS0, hKn0⟩ := u_known (C := RX0) (T := TX0) (N := 14) (n := 14) hts in_X0 (hts _ q28)
  obtain ⟨c1, iS1, hKn1⟩ := u_known (C := RX1) (T := TX1) (N := 5) (n := 5) hts in_X1 (hts _ q194)
  obtain ⟨D, hKc⟩ : ∃ D : va_G, ∀ (k : Nat) (q : vw_C), xCl[k]? = some q → u_Kn s q.1 q.2.1 q.2.2 (D.1 k) (D.2 k) := by
    refine ⟨(fun k => if k = 0 then c0 else c1, fun k => if k = 0 then iS0 else iS1), ?_⟩
    intro k q hq
    match k, hq with
    | 0, hq => cases hq; exact hKn0
    | 1, hq => cases hq; exact hKn1
    | k + 2, hq => simp at hq
  obtain ⟨dA, hdA⟩ := dA_known hts
  have hK : va_K D xCl (tyL dA) s := ⟨hKc, hdA⟩
  have hS : va_S A s.heap s.heap [] := va_S.rf
  have hP : va_P D xCl [] s.heap := fun k q h => by simp at h
  have hD : va_D A [] := ⟨fun i j p q h => by simp at h, fun k q h => by simp at h⟩
  have hl := lv_entry ([.ref b]) (n := 4) (Nat.le_of_ble_eq_true rfl)
  rw [lg_entry_eq]
  generalize (lg_sl ([.ref b]) ++ List.replicate (4 - (lg_sl ([.ref b])).length) Slot.unset).toArray = ls at hl ⊢
  have hl : lv_has ls 4 [(0, .ref b)] := hl
  have hdv : defaultValue .int = vI 0 := by show Value.int 0 = Value.int (iI 0); rw [iI_0]
  refine va_new (ci := 0) (fs := [.null, .null, .null, .null, .null, .null, .null, .null, .null, .null, .null, .null, vI 0, vI 0]) (C := RX0) (T := TX0) (N := 14) hx hb hts in_X0 tyX0 tyX0_ok hown (hts _ q27) (hts _ q28) (hts _ q25) hK hP hD hS hA rfl (fun j hj => by rcases (show j = 0 ∨ j = 1 ∨ j = 2 ∨ j = 3 ∨ j = 4 ∨ j = 5 ∨ j = 6 ∨ j = 7 ∨ j = 8 ∨ j = 9 ∨ j = 10 ∨ j = 11 ∨ j = 12 ∨ j = 13 by omega) with rfl | rfl | rfl | rfl | rfl | rfl | rfl | rfl | rfl | rfl | rfl | rfl | rfl | rfl <;> first | rfl | exact hdv) (Nat.le_of_ble_eq_true rfl) (Nat.le_of_ble_eq_true rfl) dL_law_0 (fun p0 H hP hD hS => ?_)
  have hP : va_P D xCl [(p0, .inr (0, [.null, .null, .null, .null, .null, .null, .null, .null, .null, .null, .null, .null, vI 0, vI 0]))] H := hP
  have hD : va_D A [(p0, .inr (0, [.null, .null, .null, .null, .null, .null, .null, .null, .null, .null, .null, .null, vI 0, vI 0]))] := hD
  refine W.widen (k := 1) (n := 14) (Nat.le_of_ble_eq_true rfl) (Nat.le_of_ble_eq_true rfl) ?_
  refine lv_dup hx hb dL_law_3 rfl ?_
  have hFc := va_free (wc := [(p0, .inr (0, [.null, .null, .null, .null, .null, .null, .null, .null, .null, .null, .null, .null, vI 0, vI 0]))]) hD hS hA [0] rfl
  refine va_callv (va_runI (As := []) (rest := [.ref p0]) ⟨hx, hb, hml, hown, hts⟩ (tX0_init l D dA p0 H.size) (cwI 0 hts (lw_meth q31) rfl rfl rfl (hts _ q25) (hts _ q29) (hts _ q30) rfl (by decide +kernel) ⟨Nat.le_of_ble_eq_true rfl, Nat.le_of_ble_eq_true rfl⟩) ⟨fun a U g mk q => by obtain ⟨q0, q1, qP, qK, qD⟩ := q; exact ⟨q0, q1, qP, va_K.moved (u := U) (U := U.calling g mk a) (Vm.Alike.refl U.vm) qK, qD⟩, fun U hU hW => ⟨rfl, by rw [hU], by rw [hU]; exact hP, va_K.moved hW.alike hK, hD.weaken (fun _ _ _ _ => trivial)⟩⟩ rfl rfl hl.1 rfl (lv_room (Nat.le_of_ble_eq_true rfl)) dL_law_4 ⟨Nat.le_of_ble_eq_true rfl, Nat.le_of_ble_eq_true rfl⟩) hS (fun q _ h => hFc q h) hFc (fun q0 t H1 locs ht hvm hw1 hB hz1 hk1 hS => ?_)
  obtain ⟨hP1, -, hD1⟩ := hB
  rw [ht] at hP1
  have hP : va_P D xCl (xw 0 dA p0 q0 (fun _ _ => 0, [0, 0])) H1 := hP1
  have hD : va_D A (xw 0 dA p0 q0 (fun _ _ => 0, [0, 0])) := hD1.weaken (fun _ _ _ z => hFc _ z)
  clear hP1 hD1 hFc hk1 hz1 hw1 hvm
  clear ht
  generalize H1 = H at hP hS ⊢
  refine W.widen (k := 13) (n := 140) (Nat.le_of_ble_eq_true rfl) (Nat.le_of_ble_eq_true rfl) ?_
  refine lv_astore_n (lv' := [(1, .ref p0), (0, .ref b)]) hx hb dL_law_7 rfl hl (by decide) rfl (fun ls hl => ?_)
  refine va_new (ci := 1) (fs := [.null, vI 0, vI 0, vI 0, vI 0]) (C := RX1) (T := TX1) (N := 5) hx hb hts in_X1 tyX1 tyX1_ok hown (hts _ q193) (hts _ q194) (hts _ q26) hK hP hD hS hA rfl (fun j hj => by rcases (show j = 0 ∨ j = 1 ∨ j = 2 ∨ j = 3 ∨ j = 4 by omega) with rfl | rfl | rfl | rfl | rfl <;> first | rfl | exact hdv) (Nat.le_of_ble_eq_true rfl) (Nat.le_of_ble_eq_true rfl) dL_law_8 (fun p1 H hP hD hS => ?_)
  refine W.widen (k := 14) (n := 145) (Nat.le_of_ble_eq_true rfl) (Nat.le_of_ble_eq_true rfl) ?_
  refine lv_dup hx hb dL_law_11 rfl ?_
  have hPa : va_P D xCl (xw 0 dA p0 q0 (fun _ _ => 0, [0, 0])) H := va_P.left hP
  have hPb : va_P D xCl [(p1, .inr (1, [.null, vI 0, vI 0, vI 0, vI 0]))] H := va_P.right hP
  obtain ⟨hDa, hDb, hap⟩ := va_D.split hD
  have hFc : ∀ a, va_A [(p1, .inr (1, [.null, vI 0, vI 0, vI 0, vI 0]))] H.size a → A a := fun a z => by
    rcases z with ⟨i, e0, z⟩ | z
    · exact hDb.2 i (a, e0) z
    · exact hA a (Nat.le_trans hS.1 z)
  have hnot : ∀ (k0 : Nat) (q0' : Nat × va_E), (xw 0 dA p0 q0 (fun _ _ => 0, [0, 0]))[k0]? = some q0' → ¬ va_A [(p1, .inr (1, [.null, vI 0, vI 0, vI 0, vI 0]))] H.size q0'.1 := fun k0 q0' z w => by
    rcases w with ⟨i, e0, w⟩ | w
    · exact hap k0 i q0' (q0'.1, e0) z w rfl
    · exact absurd (hPa k0 q0' z).lt (by omega)
  refine va_callv (va_runI (As := []) (rest := [.ref p1]) ⟨hx, hb, hml, hown, hts⟩ (tX1_init l D dA p1 H.size) (cwI 0 hts (lw_meth q197) rfl rfl rfl (hts _ q26) (hts _ q195) (hts _ q196) rfl (by decide +kernel) ⟨Nat.le_of_ble_eq_true rfl, Nat.le_of_ble_eq_true rfl⟩) ⟨fun a U g mk q => by obtain ⟨q0, q1, qP, qK, qD⟩ := q; exact ⟨q0, q1, qP, va_K.moved (u := U) (U := U.calling g mk a) (Vm.Alike.refl U.vm) qK, qD⟩, fun U hU hW => ⟨rfl, by rw [hU], by rw [hU]; exact hPb, va_K.moved hW.alike hK, hDb.weaken (fun _ _ _ _ => trivial)⟩⟩ rfl rfl hl.1 rfl (lv_room (Nat.le_of_ble_eq_true rfl)) dL_law_12 ⟨Nat.le_of_ble_eq_true rfl, Nat.le_of_ble_eq_true rfl⟩) hS (fun q _ h => hFc q h) hFc (fun q1 t H1 locs ht hvm hw1 hB hz1 hk1 hS => ?_)
  obtain ⟨hP1, -, hD1⟩ := hB
  rw [ht] at hP1
  have hP2 : va_P D xCl (wL dA p0 q0 p1 q1 ((fun _ _ => 0, [0, 0]), (fun _ _ => 0, [0, 0, 0, 0]))) H1 := va_P.app (hPa.kept fun k0 q0' z => hk1 q0'.1 (hPa k0 q0' z).lt (hnot k0 q0' z)) hP1
  have hD2 : va_D A (wL dA p0 q0 p1 q1 ((fun _ _ => 0, [0, 0]), (fun _ _ => 0, [0, 0, 0, 0]))) := va_D.app hDa (hD1.weaken (fun _ _ _ z => hFc _ z)) (fun i j p0' q0' z1 z2 z3 => hnot i p0' z1 (by rw [z3]; exact hD1.2 j q0' z2))
  refine W.widen (k := 15) (n := 165) (Nat.le_of_ble_eq_true rfl) (Nat.le_of_ble_eq_true rfl) ?_
  refine lv_astore_n (lv' := [(2, .ref p1), (1, .ref p0), (0, .ref b)]) hx hb dL_law_15 rfl hl (by decide) rfl (fun ls hl => ?_)
  refine lv_iconst (v := iI 0) hx hb dL_law_16 rfl ?_
  refine lv_istore_n (lv' := [(3, vI 0), (2, .ref p1), (1, .ref p0), (0, .ref b)]) hx hb dL_law_17 rfl hl (by decide) rfl (fun ls hl => ?_)
  have hLH : LH ls 4 [.ref b, .ref p0, .ref p1, vI 0] := by
    refine ⟨hl.1, hl.2.1, by simp [Value.category], fun i v hi => ?_⟩
    match i, hi with
    | 0, hi => cases hi; exact lv_at hl 3 rfl
    | 1, hi => cases hi; exact lv_at hl 2 rfl
    | 2, hi => cases hi; exact lv_at hl 1 rfl
    | 3, hi => cases hi; exact lv_at hl 0 rfl
    | i + 4, hi => simp at hi
  refine law_loop l D dA b L xs hL p0 p1 q0 q1 (XG p l e room_1 s m #[Value.ref b] below meth c (lw_Z below #[Value.ref b] s) D A (wL dA p0 q0 p1 q1) 4 15 165) ⟨p, e, s, m, _, below, meth, c, _, A, 15, 165, hx, hb, hml, hown, hts, hK, hA, ⟨Nat.le_of_ble_eq_true rfl, Nat.le_of_ble_eq_true rfl⟩, rfl⟩ ?_ ?_ ?_ (L + 4) 0 0 _ _ _ _ (by omega) (by omega) rfl rfl (fun i hi => ⟨by omega, fun _ => by omega⟩) ⟨_, _, rfl⟩ ⟨_, _, _, _, rfl⟩ H1 locs ls hP2 hD2 hS hLH
  · intro u pc vs st n i v hi hn hv hd k H locs ls hP hD hS hl
    subst hi
    refine va_sld hx hb hX hbl hbA hS (iI_in hn (by omega)) hd ?_
    rw [iI_cl (by omega), hv]
    exact k H locs ls hP hD hS hl
  · intro u pc vs st hd k H locs ls hP hD hS hl
    refine va_slen hx hb hX hbl hbA hS hd ?_
    have e9 : Int32.ofNat L = iI (L : Int) := (iI_nI L).symm
    rw [e9]
    exact k H locs ls hP hD hS hl
  · intro u pc vs hd H locs ls hP hD hS hl
    refine va_forget (fun q hq => by have := hS.2.2 q hq; rw [hAe] at this; exact this) ?_
    refine W.widen (k := 600000) (n := 7290000) (Nat.le_of_ble_eq_true rfl) (Nat.le_of_ble_eq_true rfl) ?_
    show W p l e room_1 s m #[Value.ref b] below meth c H [] 600000 7290000 (lw_Z below #[Value.ref b] s) (F0 m pc ls [.int (iI 1)])
    rw [iI_1]
    exact lw_ret hx hb hr hlocks hd
end
section
set_option maxRecDepth 100000
set_option maxHeartbeats 4000000 in
theorem lw_walk (l : Launch) (b : Addr) (xs : List Int32) : MetFree l x (headSpec (Jvm.Cond.code x code maxLocals ret :: tables_1) room_1) (lw_P b xs) (fun _ _ _ _ _ => True) lw_Q := by
  refine MetFree.of_bodyS (code := code) (maxLocals := maxLocals) (ret := ret) (by decide) ?_ ?_
  · intro args s m h hn
    obtain ⟨meth, c, h1, h2, h3, h4, h5, h6, -, -⟩ := Cond.code_spec hn (atoms_spec (ws := Jvm.Cond.code x code maxLocals ret :: tables_1) h _ List.mem_cons_self)
    exact ⟨meth, c, h1, h2, h3, h4, h5, h6⟩
  · intro p e s m args below meth c s₁ B hml0 hP _
    obtain ⟨rfl, hx, hbd, hgv⟩ := hP
    obtain ⟨scr, harrAt, hlist, hof, hsmall⟩ := hx
    obtain ⟨hcb, hkn, -, -⟩ := State.arrayAt?_spec harrAt
    have hown : s.vm.findClass R_law = some m.cls := findClass_of_methodNamed B.named
    have hts0 : ∀ c ∈ (Jvm.Cond.code x code maxLocals ret :: tables_1), c.before #[Value.ref b] s = true := atoms_spec (ws := Jvm.Cond.code x code maxLocals ret :: tables_1) B.pre
    have hts : ∀ w ∈ lw_tbl, w.before #[Value.ref b] s = true := k2_hts_sels lw_privs (fun w hw => hts0 w (List.mem_cons_of_mem _ hw)) lw_privs_ok
    have hml : c.maxLocals = 4 := B.maxLocals_eq (hts0 _ List.mem_cons_self)
    have X₀ : Stand p l e room_1 s m #[Value.ref b] below meth c s₁ [] 0 0 := Stand.of_body B
    have hh0 : s₁.heap = s.heap := by rw [B.state]; rfl
    have hsz : scr.slots.size = xs.length := by rw [← Array.length_toList, hlist, List.length_map]
    have hval : ∀ j : Nat, j < xs.length → scr.slots[j]? = some (.int (xs.getD j 0)) := fun j hj => by
      rw [← Array.getElem?_toList, hlist]
      simp [hj]
    have hbl : b < s.heap.size := (Array.getElem?_eq_some_iff.mp hcb).1
    have hX : va_X b xs.length (fun j => xs.getD j 0) s s.heap := ⟨scr, hcb, hof, hkn, hsz, hval⟩
    have K : W p l e room_1 s m #[Value.ref b] below meth c s₁.heap [] 0 0 (lw_Z below #[Value.ref b] s) (entryFrame m ([Value.ref b] : List Value).toArray 4) := by
      rw [hh0]
      exact whole_start l hbd ⟨B.exec, B.bytes, B.returns, hml, hown, hts, hX, hbl, B.notSynchronized, hgv⟩
    obtain ⟨t, a1, o, b1, b2, b3⟩ := K s₁ rfl X₀
    exact ⟨t, o, a1, b1, b2, b3⟩
theorem lw_pre_spec {args : Array Value} {s : State} (h : (Jvm.Cond.and given_1 narrow_1).before args s = true) (hr : rest_1_c.before args s = true) : ∃ (b : Addr) (xs : List Int32), lw_P b xs args s := by
  have hs := flat_of_before _ h
  have hq := flat_of_before _ hr
  have hc : (Cond.count 1).before args s = true := hs _ (by decide +kernel)
  have harr : (Cond.arrayOf (.arg 0) .int).before args s = true := hs _ (by decide +kernel)
  have hle : (Cond.le (.length (.arg 0)) (.int 256)).before args s = true := hs _ (by decide +kernel)
  have hlen : (Cond.isInt (.length (.arg 0))).before args s = true := hq _ (by decide +kernel)
  have hall : (Cond.all (.arg 0) (.isInt (.elem (.arg 0) (.index 0)))).before args s = true := hq _ (by decide +kernel)
  obtain ⟨b, xs, hb, hx⟩ := State.ints_of_pre rfl harr hlen hall
  have hsm : xs.length < 2 ^ 31 := hx.choose_spec.2.2.2
  have hev : (Term.length (.arg 0)).eval args s none [] s = some (.int xs.length.toInt32) := hx.length_eval hb
  have hv := Cond.le_ints hev (show (Term.int 256).eval args s none [] s = some (.int 256) from rfl)
  have hd : xs.length.toInt32 ≤ 256 := by
    simpa [Cond.before, Cond.holds, hv] using hle
  have hN : xs.length ≤ 256 := (Int32.ofNat_le_ofNat hsm (by decide)).mp (show Int32.ofNat xs.length ≤ Int32.ofNat 256 from hd)
  exact ⟨b, xs, Cond.one_arg hc (show args[0]? = some (.ref b) from hb), hx, hN, h⟩
theorem lw_comes (l : Launch) : Comes l x (Jvm.Cond.code x code maxLocals ret :: tables_1) room_1 (fun tb e args s => Calls_1 tb e args s ∧ rest_1 tb e args s ∧ Pre_1 tb e args s)
    (fun _ _ args s o t => lw_Q args s o t) := by
  intro p e ha hc hk s m args below hf hfit hheap happ hpre
  obtain ⟨b, xs, hP⟩ := lw_pre_spec hpre.2.2 hpre.2.1
  obtain ⟨k, o, h1, h2, h3, hQ⟩ := lw_walk l b xs p e ha hc hk s m args below hf ((Spec.applies_iff_loose hf).mp happ).1 hP trivial
  exact ⟨k, o, h1, h2, h3, hQ⟩
theorem lw_frame {s t : State} {o : Outcome} {args : Array Value} (h : Framed s o t [] 600000 7290000) :
    Framed s o t (fieldLocs frame_1_writes args s ++ arrayLocs frame_1_arrays args s ++ staticLocs frame_1_statics s) 600000 7290000 := h
theorem lw_limb (L : Cond) (hL : ∀ (args : Array Value) (s t : State), L.after args s (.returned (some (.int 1))) t = true) :
    ArmFor flags0 classFile x code maxLocals ret World_1 tables_1 room_1 Calls_1 rest_1 Pre_1
      (fun tb e a s o t => postC L tb e a s o t ∧ Framed s o t (fieldLocs frame_1_writes a s ++ arrayLocs frame_1_arrays a s ++ staticLocs frame_1_statics s) 600000 7290000) := by
  intro l _ _ _ p e ha hc hk s m args below hf hfit hheap happ hpre
  obtain ⟨k, o, h1, h2, h3, rfl, hF⟩ := lw_comes l p e ha hc hk s m args below hf hfit hheap happ hpre
  exact ⟨k, _, h1, h2, h3, hL args s _, lw_frame hF⟩
theorem i_vc : Claimed_1_1 ∧ Claimed_1_2 := ⟨lw_limb limb_1_1 (fun args s t => by simp [limb_1_1, Cond.after, Cond.holds, Cond.value]), lw_limb limb_1_2 (fun args s t => Cond.after_iff.mpr (by
  first | (rw [show limb_1_2 = Cond.eq .result (.int 1) from rfl, Cond.eq_ints (x := 1) (y := 1) rfl rfl]; simp; done) | (simp [limb_1_2, Cond.value, Term.eval]; done)))⟩
end
