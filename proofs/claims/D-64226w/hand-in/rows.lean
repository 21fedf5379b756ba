section
-- ===== PART A: goes FIRST, ahead of the names: the tables' words, and 'selects' of the private methods out of them =====
/-- a private method of a class that the tables say can be made, by its rows of tables_1 -/
def lw_okq (q : MethodName × Nat) : Prop := (q.1.cls ≠ "java/lang/invoke/MethodHandle" ∧ q.1.cls ≠ "java/lang/invoke/VarHandle") ∧ Cond.instantiable q.1.cls q.2 ∈ tables_1 ∧ Cond.privateMethod q.1 ∈ tables_1 ∧ Cond.instanceMethod q.1 ∈ tables_1
set_option maxRecDepth 100000
theorem lw_p0 : lw_okq (⟨"QuotientFilter", "isFilter", "(I)Z"⟩, 8) := ⟨⟨by decide +kernel, by decide +kernel⟩, List.mem_of_getElem? (i := 4) rfl, List.mem_of_getElem? (i := 44) rfl, List.mem_of_getElem? (i := 45) rfl⟩
theorem lw_p1 : lw_okq (⟨"QuotientFilter", "slots", "(I)I"⟩, 8) := ⟨⟨by decide +kernel, by decide +kernel⟩, List.mem_of_getElem? (i := 4) rfl, List.mem_of_getElem? (i := 48) rfl, List.mem_of_getElem? (i := 49) rfl⟩
theorem lw_p2 : lw_okq (⟨"QuotientFilter", "insert", "(II)V"⟩, 8) := ⟨⟨by decide +kernel, by decide +kernel⟩, List.mem_of_getElem? (i := 4) rfl, List.mem_of_getElem? (i := 57) rfl, List.mem_of_getElem? (i := 58) rfl⟩
theorem lw_p3 : lw_okq (⟨"QuotientFilter", "base", "(I)I"⟩, 8) := ⟨⟨by decide +kernel, by decide +kernel⟩, List.mem_of_getElem? (i := 4) rfl, List.mem_of_getElem? (i := 61) rfl, List.mem_of_getElem? (i := 62) rfl⟩
theorem lw_p4 : lw_okq (⟨"QuotientFilter", "slotOf", "(II)I"⟩, 8) := ⟨⟨by decide +kernel, by decide +kernel⟩, List.mem_of_getElem? (i := 4) rfl, List.mem_of_getElem? (i := 65) rfl, List.mem_of_getElem? (i := 66) rfl⟩
theorem lw_p5 : lw_okq (⟨"QuotientFilter", "lowerOf", "(II)I"⟩, 8) := ⟨⟨by decide +kernel, by decide +kernel⟩, List.mem_of_getElem? (i := 4) rfl, List.mem_of_getElem? (i := 69) rfl, List.mem_of_getElem? (i := 70) rfl⟩
theorem lw_p6 : lw_okq (⟨"QuotientFilter", "isFree", "(II)Z"⟩, 8) := ⟨⟨by decide +kernel, by decide +kernel⟩, List.mem_of_getElem? (i := 4) rfl, List.mem_of_getElem? (i := 73) rfl, List.mem_of_getElem? (i := 74) rfl⟩
theorem lw_p7 : lw_okq (⟨"QuotientFilter", "holds", "(II)Z"⟩, 8) := ⟨⟨by decide +kernel, by decide +kernel⟩, List.mem_of_getElem? (i := 4) rfl, List.mem_of_getElem? (i := 77) rfl, List.mem_of_getElem? (i := 78) rfl⟩
theorem lw_p8 : lw_okq (⟨"QuotientFilter", "runStart", "(II)I"⟩, 8) := ⟨⟨by decide +kernel, by decide +kernel⟩, List.mem_of_getElem? (i := 4) rfl, List.mem_of_getElem? (i := 81) rfl, List.mem_of_getElem? (i := 82) rfl⟩
theorem lw_p9 : lw_okq (⟨"QuotientFilter", "beforeSlot", "(II)I"⟩, 8) := ⟨⟨by decide +kernel, by decide +kernel⟩, List.mem_of_getElem? (i := 4) rfl, List.mem_of_getElem? (i := 85) rfl, List.mem_of_getElem? (i := 86) rfl⟩
theorem lw_p10 : lw_okq (⟨"QuotientFilter", "after", "(II)I"⟩, 8) := ⟨⟨by decide +kernel, by decide +kernel⟩, List.mem_of_getElem? (i := 4) rfl, List.mem_of_getElem? (i := 89) rfl, List.mem_of_getElem? (i := 90) rfl⟩
theorem lw_p11 : lw_okq (⟨"QuotientFilter", "push", "(IIIZZ)V"⟩, 8) := ⟨⟨by decide +kernel, by decide +kernel⟩, List.mem_of_getElem? (i := 4) rfl, List.mem_of_getElem? (i := 93) rfl, List.mem_of_getElem? (i := 94) rfl⟩
theorem lw_p12 : lw_okq (⟨"QuotientFilter", "timesOf", "(II)I"⟩, 8) := ⟨⟨by decide +kernel, by decide +kernel⟩, List.mem_of_getElem? (i := 4) rfl, List.mem_of_getElem? (i := 97) rfl, List.mem_of_getElem? (i := 98) rfl⟩
theorem lw_p13 : lw_okq (⟨"QuotientFilter", "takeOut", "(II)V"⟩, 8) := ⟨⟨by decide +kernel, by decide +kernel⟩, List.mem_of_getElem? (i := 4) rfl, List.mem_of_getElem? (i := 105) rfl, List.mem_of_getElem? (i := 106) rfl⟩
theorem lw_p14 : lw_okq (⟨"QuotientFilter", "readStretch", "(III)I"⟩, 8) := ⟨⟨by decide +kernel, by decide +kernel⟩, List.mem_of_getElem? (i := 4) rfl, List.mem_of_getElem? (i := 109) rfl, List.mem_of_getElem? (i := 110) rfl⟩
theorem lw_p15 : lw_okq (⟨"QuotientFilter", "free", "(II)V"⟩, 8) := ⟨⟨by decide +kernel, by decide +kernel⟩, List.mem_of_getElem? (i := 4) rfl, List.mem_of_getElem? (i := 113) rfl, List.mem_of_getElem? (i := 114) rfl⟩
def lw_privs_1 : List (MethodName × Nat) := [(⟨"QuotientFilter", "isFilter", "(I)Z"⟩, 8), (⟨"QuotientFilter", "slots", "(I)I"⟩, 8), (⟨"QuotientFilter", "insert", "(II)V"⟩, 8), (⟨"QuotientFilter", "base", "(I)I"⟩, 8), (⟨"QuotientFilter", "slotOf", "(II)I"⟩, 8), (⟨"QuotientFilter", "lowerOf", "(II)I"⟩, 8), (⟨"QuotientFilter", "isFree", "(II)Z"⟩, 8), (⟨"QuotientFilter", "holds", "(II)Z"⟩, 8), (⟨"QuotientFilter", "runStart", "(II)I"⟩, 8), (⟨"QuotientFilter", "beforeSlot", "(II)I"⟩, 8), (⟨"QuotientFilter", "after", "(II)I"⟩, 8), (⟨"QuotientFilter", "push", "(IIIZZ)V"⟩, 8), (⟨"QuotientFilter", "timesOf", "(II)I"⟩, 8), (⟨"QuotientFilter", "takeOut", "(II)V"⟩, 8), (⟨"QuotientFilter", "readStretch", "(III)I"⟩, 8), (⟨"QuotientFilter", "free", "(II)V"⟩, 8)]
theorem lw_r1 : ∀ q ∈ lw_privs_1, lw_okq q := List.forall_mem_cons.mpr ⟨lw_p0, List.forall_mem_cons.mpr ⟨lw_p1, List.forall_mem_cons.mpr ⟨lw_p2, List.forall_mem_cons.mpr ⟨lw_p3, List.forall_mem_cons.mpr ⟨lw_p4, List.forall_mem_cons.mpr ⟨lw_p5, List.forall_mem_cons.mpr ⟨lw_p6, List.forall_mem_cons.mpr ⟨lw_p7, List.forall_mem_cons.mpr ⟨lw_p8, List.forall_mem_cons.mpr ⟨lw_p9, List.forall_mem_cons.mpr ⟨lw_p10, List.forall_mem_cons.mpr ⟨lw_p11, List.forall_mem_cons.mpr ⟨lw_p12, List.forall_mem_cons.mpr ⟨lw_p13, List.forall_mem_cons.mpr ⟨lw_p14, List.forall_mem_cons.mpr ⟨lw_p15, fun _ h => absurd h List.not_mem_nil⟩⟩⟩⟩⟩⟩⟩⟩⟩⟩⟩⟩⟩⟩⟩⟩
theorem lw_p16 : lw_okq (⟨"QuotientFilter", "readAll", "(I)V"⟩, 8) := ⟨⟨by decide +kernel, by decide +kernel⟩, List.mem_of_getElem? (i := 4) rfl, List.mem_of_getElem? (i := 137) rfl, List.mem_of_getElem? (i := 138) rfl⟩
theorem lw_p17 : lw_okq (⟨"QuotientFilter", "resize", "(II)V"⟩, 8) := ⟨⟨by decide +kernel, by decide +kernel⟩, List.mem_of_getElem? (i := 4) rfl, List.mem_of_getElem? (i := 145) rfl, List.mem_of_getElem? (i := 146) rfl⟩
theorem lw_p18 : lw_okq (⟨"QuotientFilter", "empty", "(I)V"⟩, 8) := ⟨⟨by decide +kernel, by decide +kernel⟩, List.mem_of_getElem? (i := 4) rfl, List.mem_of_getElem? (i := 149) rfl, List.mem_of_getElem? (i := 150) rfl⟩
theorem lw_p19 : lw_okq (⟨"QuotientFilterModel", "isFilter", "(I)Z"⟩, 2) := ⟨⟨by decide +kernel, by decide +kernel⟩, List.mem_of_getElem? (i := 166) rfl, List.mem_of_getElem? (i := 184) rfl, List.mem_of_getElem? (i := 185) rfl⟩
def lw_privs_2 : List (MethodName × Nat) := [(⟨"QuotientFilter", "readAll", "(I)V"⟩, 8), (⟨"QuotientFilter", "resize", "(II)V"⟩, 8), (⟨"QuotientFilter", "empty", "(I)V"⟩, 8), (⟨"QuotientFilterModel", "isFilter", "(I)Z"⟩, 2)]
theorem lw_r2 : ∀ q ∈ lw_privs_2, lw_okq q := List.forall_mem_cons.mpr ⟨lw_p16, List.forall_mem_cons.mpr ⟨lw_p17, List.forall_mem_cons.mpr ⟨lw_p18, List.forall_mem_cons.mpr ⟨lw_p19, fun _ h => absurd h List.not_mem_nil⟩⟩⟩⟩
def lw_privs : List (MethodName × Nat) := lw_privs_1 ++ (lw_privs_2)
def lw_tbl : List Cond := k2_sels lw_privs ++ tables_1
theorem lw_privs_ok : ∀ q ∈ lw_privs, lw_okq q := by
  show ∀ q ∈ lw_privs_1 ++ (lw_privs_2), lw_okq q
  exact List.forall_mem_append.mpr ⟨lw_r1, lw_r2⟩
-- ===== ONE list of words for every method: the tables' words that hold all through a run =====
def lw_all : List Cond := lw_tbl.filter goodWord
/-- a word of the tables by its place: claim/WORDS.tsv -/
theorem lw_w {w : Cond} (i : Nat) (h : lw_tbl[i]? = some w) (g : goodWord w = true) : w ∈ lw_all := List.mem_filter.mpr ⟨List.mem_of_getElem? h, g⟩
theorem lw_all_tbl {w : Cond} (h : w ∈ lw_all) : w ∈ lw_tbl := (List.mem_filter.mp h).1
theorem lw_self : GoodIn lw_all lw_all := fun w h => ⟨h, good_of_word (List.mem_filter.mp h).2⟩
/-- a class's field words, by their places -/
theorem lw_in (ws : List Cond) (ps : List Nat) (hp : ws = ps.filterMap (fun i => lw_tbl[i]?)) (hg : ws.all goodWord = true) : ∀ w ∈ ws, w ∈ lw_all := by
  intro w h
  have h1 := List.all_eq_true.mp hg w h
  rw [hp] at h
  obtain ⟨i, -, hi⟩ := List.mem_filterMap.mp h
  exact lw_w i hi h1
/-- the words of a contract for the method y with code b, L locals, answer r -/
abbrev ws_ (y : MethodName) (b : ByteArray) (L : Nat) (r : Option FieldType) : List Cond := Cond.code y b L r :: lw_all
theorem lw_meth {y : MethodName} {b : ByteArray} {L : Nat} {r : Option FieldType} (h : Cond.code y b L r ∈ lw_all) : GoodIn lw_all (ws_ y b L r) := by
  intro w hw
  rcases List.mem_cons.mp hw with e | e
  · rw [e]
    exact lw_self _ h
  · exact lw_self _ e
theorem lw_app {a c : List Cond} (ha : ∀ w ∈ a, w ∈ lw_all) (hc : GoodIn lw_all c) : GoodIn lw_all (a ++ c) := by
  intro w hw
  rcases List.mem_append.mp hw with e | e
  · exact lw_self w (ha w e)
  · exact hc w e
/-- what a call through an object asks: cwV n hts (lw_V ..) -/
theorem lw_V {own : String} {idx : Nat} {C : String} {y : MethodName} {b : ByteArray} {L : Nat} {r : Option FieldType} (h1 : Cond.methodLink own idx y ∈ lw_all) (h2 : Cond.instanceMethod y ∈ lw_all) (h3 : Cond.selects C y y ∈ lw_all) (h4 : Cond.initialized C ∈ lw_all) (h5 : Cond.code y b L r ∈ lw_all) : GoodIn lw_all (wsV own idx C y (ws_ y b L r)) := by
  refine lw_app ?_ (lw_meth h5)
  intro w hw
  simp only [List.mem_cons, List.not_mem_nil, or_false] at hw
  rcases hw with e | e | e | e
  · rw [e]; exact h1
  · rw [e]; exact h2
  · rw [e]; exact h3
  · rw [e]; exact h4
/-- what a static call asks: va_cwS n hts (lw_S ..) -/
theorem lw_S {own : String} {idx : Nat} {y : MethodName} {b : ByteArray} {L : Nat} {r : Option FieldType} (h1 : Cond.methodLink own idx y ∈ lw_all) (h2 : Cond.static y ∈ lw_all) (h3 : Cond.initialized y.cls ∈ lw_all) (h4 : Cond.code y b L r ∈ lw_all) : GoodIn lw_all (va_wsS own idx y (ws_ y b L r)) := by
  refine lw_app ?_ (lw_meth h4)
  intro w hw
  simp only [List.mem_cons, List.not_mem_nil, or_false] at hw
  rcases hw with e | e | e
  · rw [e]; exact h1
  · rw [e]; exact h2
  · rw [e]; exact h3
/-- the words of a contract for a method WITH HANDLERS (hh: its table) -/
abbrev wsW_ (y : MethodName) (b : ByteArray) (L : Nat) (r : Option FieldType) (hh : List (Nat × Nat × Nat × Nat)) : List Cond := Cond.codeWith y b L r hh :: lw_all
theorem lw_methW {y : MethodName} {b : ByteArray} {L : Nat} {r : Option FieldType} {hh : List (Nat × Nat × Nat × Nat)} (h : Cond.codeWith y b L r hh ∈ lw_all) : GoodIn lw_all (wsW_ y b L r hh) := by
  intro w hw
  rcases List.mem_cons.mp hw with e | e
  · rw [e]
    exact lw_self _ h
  · exact lw_self _ e
/-- any list of words by their places (lw_in), good -/
theorem lw_good {ws : List Cond} (h : ∀ w ∈ ws, w ∈ lw_all) : GoodIn lw_all ws := fun w hw => lw_self w (h w hw)
/-- what a call of a method with handlers asks: vx_cwVW n hts (lw_VW ..), vx_cwSW n hts (lw_SW ..) -/
theorem lw_VW {own : String} {idx : Nat} {C : String} {y : MethodName} {b : ByteArray} {L : Nat} {r : Option FieldType} {hh : List (Nat × Nat × Nat × Nat)} (h1 : Cond.methodLink own idx y ∈ lw_all) (h2 : Cond.instanceMethod y ∈ lw_all) (h3 : Cond.selects C y y ∈ lw_all) (h4 : Cond.initialized C ∈ lw_all) (h5 : Cond.codeWith y b L r hh ∈ lw_all) : GoodIn lw_all (wsV own idx C y (wsW_ y b L r hh)) := by
  refine lw_app ?_ (lw_methW h5)
  intro w hw
  simp only [List.mem_cons, List.not_mem_nil, or_false] at hw
  rcases hw with e | e | e | e
  · rw [e]; exact h1
  · rw [e]; exact h2
  · rw [e]; exact h3
  · rw [e]; exact h4
theorem lw_SW {own : String} {idx : Nat} {y : MethodName} {b : ByteArray} {L : Nat} {r : Option FieldType} {hh : List (Nat × Nat × Nat × Nat)} (h1 : Cond.methodLink own idx y ∈ lw_all) (h2 : Cond.static y ∈ lw_all) (h3 : Cond.initialized y.cls ∈ lw_all) (h4 : Cond.codeWith y b L r hh ∈ lw_all) : GoodIn lw_all (va_wsS own idx y (wsW_ y b L r hh)) := by
  refine lw_app ?_ (lw_methW h4)
  intro w hw
  simp only [List.mem_cons, List.not_mem_nil, or_false] at hw
  rcases hw with e | e | e
  · rw [e]; exact h1
  · rw [e]; exact h2
  · rw [e]; exact h3
/-- a word by its place in its run of the tables -/
theorem lw_at {r : List Cond} (hr : ∀ w ∈ r, w ∈ lw_tbl) {w : Cond} (i : Nat) (h : r[i]? = some w) : w ∈ lw_tbl := hr w (List.mem_of_getElem? h)
theorem lw_g {w : Cond} (h : w ∈ lw_tbl) (g : goodWord w = true) : w ∈ lw_all := List.mem_filter.mpr ⟨h, g⟩
theorem lw_ms : ∀ w ∈ k2_sels lw_privs, w ∈ lw_tbl := fun w h => show w ∈ k2_sels lw_privs ++ tables_1 from List.mem_append_left _ h
theorem lw_m0 : ∀ w ∈ tables_1, w ∈ lw_tbl := fun w h => show w ∈ k2_sels lw_privs ++ tables_1 from List.mem_append_right (k2_sels lw_privs) h
theorem qs0 : (Cond.selects "QuotientFilter" ⟨"QuotientFilter", "isFilter", "(I)Z"⟩ ⟨"QuotientFilter", "isFilter", "(I)Z"⟩) ∈ lw_all := lw_g (lw_at lw_ms 0 rfl) rfl
theorem qs1 : (Cond.selects "QuotientFilter" ⟨"QuotientFilter", "slots", "(I)I"⟩ ⟨"QuotientFilter", "slots", "(I)I"⟩) ∈ lw_all := lw_g (lw_at lw_ms 1 rfl) rfl
theorem qs2 : (Cond.selects "QuotientFilter" ⟨"QuotientFilter", "insert", "(II)V"⟩ ⟨"QuotientFilter", "insert", "(II)V"⟩) ∈ lw_all := lw_g (lw_at lw_ms 2 rfl) rfl
theorem qs3 : (Cond.selects "QuotientFilter" ⟨"QuotientFilter", "base", "(I)I"⟩ ⟨"QuotientFilter", "base", "(I)I"⟩) ∈ lw_all := lw_g (lw_at lw_ms 3 rfl) rfl
theorem qs4 : (Cond.selects "QuotientFilter" ⟨"QuotientFilter", "slotOf", "(II)I"⟩ ⟨"QuotientFilter", "slotOf", "(II)I"⟩) ∈ lw_all := lw_g (lw_at lw_ms 4 rfl) rfl
theorem qs5 : (Cond.selects "QuotientFilter" ⟨"QuotientFilter", "lowerOf", "(II)I"⟩ ⟨"QuotientFilter", "lowerOf", "(II)I"⟩) ∈ lw_all := lw_g (lw_at lw_ms 5 rfl) rfl
theorem qs6 : (Cond.selects "QuotientFilter" ⟨"QuotientFilter", "isFree", "(II)Z"⟩ ⟨"QuotientFilter", "isFree", "(II)Z"⟩) ∈ lw_all := lw_g (lw_at lw_ms 6 rfl) rfl
theorem qs7 : (Cond.selects "QuotientFilter" ⟨"QuotientFilter", "holds", "(II)Z"⟩ ⟨"QuotientFilter", "holds", "(II)Z"⟩) ∈ lw_all := lw_g (lw_at lw_ms 7 rfl) rfl
theorem qs8 : (Cond.selects "QuotientFilter" ⟨"QuotientFilter", "runStart", "(II)I"⟩ ⟨"QuotientFilter", "runStart", "(II)I"⟩) ∈ lw_all := lw_g (lw_at lw_ms 8 rfl) rfl
theorem qs9 : (Cond.selects "QuotientFilter" ⟨"QuotientFilter", "beforeSlot", "(II)I"⟩ ⟨"QuotientFilter", "beforeSlot", "(II)I"⟩) ∈ lw_all := lw_g (lw_at lw_ms 9 rfl) rfl
theorem qs10 : (Cond.selects "QuotientFilter" ⟨"QuotientFilter", "after", "(II)I"⟩ ⟨"QuotientFilter", "after", "(II)I"⟩) ∈ lw_all := lw_g (lw_at lw_ms 10 rfl) rfl
theorem qs11 : (Cond.selects "QuotientFilter" ⟨"QuotientFilter", "push", "(IIIZZ)V"⟩ ⟨"QuotientFilter", "push", "(IIIZZ)V"⟩) ∈ lw_all := lw_g (lw_at lw_ms 11 rfl) rfl
theorem qs12 : (Cond.selects "QuotientFilter" ⟨"QuotientFilter", "timesOf", "(II)I"⟩ ⟨"QuotientFilter", "timesOf", "(II)I"⟩) ∈ lw_all := lw_g (lw_at lw_ms 12 rfl) rfl
theorem qs13 : (Cond.selects "QuotientFilter" ⟨"QuotientFilter", "takeOut", "(II)V"⟩ ⟨"QuotientFilter", "takeOut", "(II)V"⟩) ∈ lw_all := lw_g (lw_at lw_ms 13 rfl) rfl
theorem qs14 : (Cond.selects "QuotientFilter" ⟨"QuotientFilter", "readStretch", "(III)I"⟩ ⟨"QuotientFilter", "readStretch", "(III)I"⟩) ∈ lw_all := lw_g (lw_at lw_ms 14 rfl) rfl
theorem qs15 : (Cond.selects "QuotientFilter" ⟨"QuotientFilter", "free", "(II)V"⟩ ⟨"QuotientFilter", "free", "(II)V"⟩) ∈ lw_all := lw_g (lw_at lw_ms 15 rfl) rfl
theorem qs16 : (Cond.selects "QuotientFilter" ⟨"QuotientFilter", "readAll", "(I)V"⟩ ⟨"QuotientFilter", "readAll", "(I)V"⟩) ∈ lw_all := lw_g (lw_at lw_ms 16 rfl) rfl
theorem qs17 : (Cond.selects "QuotientFilter" ⟨"QuotientFilter", "resize", "(II)V"⟩ ⟨"QuotientFilter", "resize", "(II)V"⟩) ∈ lw_all := lw_g (lw_at lw_ms 17 rfl) rfl
theorem qs18 : (Cond.selects "QuotientFilter" ⟨"QuotientFilter", "empty", "(I)V"⟩ ⟨"QuotientFilter", "empty", "(I)V"⟩) ∈ lw_all := lw_g (lw_at lw_ms 18 rfl) rfl
theorem qs19 : (Cond.selects "QuotientFilterModel" ⟨"QuotientFilterModel", "isFilter", "(I)Z"⟩ ⟨"QuotientFilterModel", "isFilter", "(I)Z"⟩) ∈ lw_all := lw_g (lw_at lw_ms 19 rfl) rfl
end
section
/-! QuotientFilter -/
set_option maxRecDepth 100000
def RX0 : String := "QuotientFilter"
def TX0 : u_T := fun k => match k with
  | 0 => ("QuotientFilter", "slotBits", "[B", true)
  | 1 => ("QuotientFilter", "held", "[B", true)
  | 2 => ("QuotientFilter", "lower", "[B", true)
  | 3 => ("QuotientFilter", "named", "[Z", true)
  | 4 => ("QuotientFilter", "goesOn", "[Z", true)
  | 5 => ("QuotientFilter", "pushed", "[Z", true)
  | 6 => ("QuotientFilter", "readCount", "I", false)
  | _ => ("QuotientFilter", "read", "[S", true)
def tyX0 : Nat → FieldType := fun k => match k with
  | 0 => .array .byte
  | 1 => .array .byte
  | 2 => .array .byte
  | 3 => .array .boolean
  | 4 => .array .boolean
  | 5 => .array .boolean
  | 6 => .int
  | _ => .array .short
abbrev wsX00 : List Cond := u_ws RX0 TX0 8
theorem nmX0 : ∀ a, a < 8 → ∀ b, b < 8 → a ≠ b → (TX0 a).2.1 ≠ (TX0 b).2.1 := by decide +kernel
theorem tyX0_ok : ∀ k, k < 8 → parseFieldDescriptor (TX0 k).2.2.1 = some (tyX0 k) := by decide +kernel
abbrev cX0_init : ByteArray := prog_1_method_1_code
def yX0_init : MethodName := ⟨RX0, "<init>", "()V"⟩
theorem dX0_init_0 : decode cX0_init 0 = .ok (.aload_n 0, 1) := by decide +kernel
theorem dX0_init_1 : decode cX0_init 1 = .ok (.invokespecial 1, 3) := by decide +kernel
theorem dX0_init_4 : decode cX0_init 4 = .ok (.aload_n 0, 1) := by decide +kernel
theorem dX0_init_5 : decode cX0_init 5 = .ok (.iconst 2, 1) := by decide +kernel
theorem dX0_init_6 : decode cX0_init 6 = .ok (.newarray .byte, 2) := by decide +kernel
theorem dX0_init_8 : decode cX0_init 8 = .ok (.putfield 7, 3) := by decide +kernel
theorem dX0_init_11 : decode cX0_init 11 = .ok (.aload_n 0, 1) := by decide +kernel
theorem dX0_init_12 : decode cX0_init 12 = .ok (.iconst 2, 1) := by decide +kernel
theorem dX0_init_13 : decode cX0_init 13 = .ok (.newarray .byte, 2) := by decide +kernel
theorem dX0_init_15 : decode cX0_init 15 = .ok (.putfield 13, 3) := by decide +kernel
theorem dX0_init_18 : decode cX0_init 18 = .ok (.aload_n 0, 1) := by decide +kernel
theorem dX0_init_19 : decode cX0_init 19 = .ok (.sipush 128, 3) := by decide +kernel
theorem dX0_init_22 : decode cX0_init 22 = .ok (.newarray .byte, 2) := by decide +kernel
theorem dX0_init_24 : decode cX0_init 24 = .ok (.putfield 16, 3) := by decide +kernel
theorem dX0_init_27 : decode cX0_init 27 = .ok (.aload_n 0, 1) := by decide +kernel
theorem dX0_init_28 : decode cX0_init 28 = .ok (.sipush 128, 3) := by decide +kernel
theorem dX0_init_31 : decode cX0_init 31 = .ok (.newarray .boolean, 2) := by decide +kernel
theorem dX0_init_33 : decode cX0_init 33 = .ok (.putfield 19, 3) := by decide +kernel
theorem dX0_init_36 : decode cX0_init 36 = .ok (.aload_n 0, 1) := by decide +kernel
theorem dX0_init_37 : decode cX0_init 37 = .ok (.sipush 128, 3) := by decide +kernel
theorem dX0_init_40 : decode cX0_init 40 = .ok (.newarray .boolean, 2) := by decide +kernel
theorem dX0_init_42 : decode cX0_init 42 = .ok (.putfield 23, 3) := by decide +kernel
theorem dX0_init_45 : decode cX0_init 45 = .ok (.aload_n 0, 1) := by decide +kernel
theorem dX0_init_46 : decode cX0_init 46 = .ok (.sipush 128, 3) := by decide +kernel
theorem dX0_init_49 : decode cX0_init 49 = .ok (.newarray .boolean, 2) := by decide +kernel
theorem dX0_init_51 : decode cX0_init 51 = .ok (.putfield 26, 3) := by decide +kernel
theorem dX0_init_54 : decode cX0_init 54 = .ok (.aload_n 0, 1) := by decide +kernel
theorem dX0_init_55 : decode cX0_init 55 = .ok (.bipush 64, 2) := by decide +kernel
theorem dX0_init_57 : decode cX0_init 57 = .ok (.newarray .short, 2) := by decide +kernel
theorem dX0_init_59 : decode cX0_init 59 = .ok (.putfield 29, 3) := by decide +kernel
theorem dX0_init_62 : decode cX0_init 62 = .ok (.aload_n 0, 1) := by decide +kernel
theorem dX0_init_63 : decode cX0_init 63 = .ok (.getfield 7, 3) := by decide +kernel
theorem dX0_init_66 : decode cX0_init 66 = .ok (.iconst 0, 1) := by decide +kernel
theorem dX0_init_67 : decode cX0_init 67 = .ok (.iconst 3, 1) := by decide +kernel
theorem dX0_init_68 : decode cX0_init 68 = .ok (.bastore, 1) := by decide +kernel
theorem dX0_init_69 : decode cX0_init 69 = .ok (.aload_n 0, 1) := by decide +kernel
theorem dX0_init_70 : decode cX0_init 70 = .ok (.getfield 7, 3) := by decide +kernel
theorem dX0_init_73 : decode cX0_init 73 = .ok (.iconst 1, 1) := by decide +kernel
theorem dX0_init_74 : decode cX0_init 74 = .ok (.iconst 3, 1) := by decide +kernel
theorem dX0_init_75 : decode cX0_init 75 = .ok (.bastore, 1) := by decide +kernel
theorem dX0_init_76 : decode cX0_init 76 = .ok (.return_, 1) := by decide +kernel
abbrev cX0_add : ByteArray := prog_1_method_2_code
def yX0_add : MethodName := ⟨RX0, "add", "(II)I"⟩
theorem dX0_add_0 : decode cX0_add 0 = .ok (.aload_n 0, 1) := by decide +kernel
theorem dX0_add_1 : decode cX0_add 1 = .ok (.iload_n 1, 1) := by decide +kernel
theorem dX0_add_2 : decode cX0_add 2 = .ok (.invokevirtual 33, 3) := by decide +kernel
theorem dX0_add_5 : decode cX0_add 5 = .ok (.ifCond .ne 5, 3) := by decide +kernel
theorem dX0_add_8 : decode cX0_add 8 = .ok (.iconst (-1), 1) := by decide +kernel
theorem dX0_add_9 : decode cX0_add 9 = .ok (.ireturn, 1) := by decide +kernel
theorem dX0_add_10 : decode cX0_add 10 = .ok (.aload_n 0, 1) := by decide +kernel
theorem dX0_add_11 : decode cX0_add 11 = .ok (.getfield 13, 3) := by decide +kernel
theorem dX0_add_14 : decode cX0_add 14 = .ok (.iload_n 1, 1) := by decide +kernel
theorem dX0_add_15 : decode cX0_add 15 = .ok (.baload, 1) := by decide +kernel
theorem dX0_add_16 : decode cX0_add 16 = .ok (.aload_n 0, 1) := by decide +kernel
theorem dX0_add_17 : decode cX0_add 17 = .ok (.iload_n 1, 1) := by decide +kernel
theorem dX0_add_18 : decode cX0_add 18 = .ok (.invokevirtual 37, 3) := by decide +kernel
theorem dX0_add_21 : decode cX0_add 21 = .ok (.iconst 1, 1) := by decide +kernel
theorem dX0_add_22 : decode cX0_add 22 = .ok (.isub, 1) := by decide +kernel
theorem dX0_add_23 : decode cX0_add 23 = .ok (.if_icmp .lt 6, 3) := by decide +kernel
theorem dX0_add_26 : decode cX0_add 26 = .ok (.bipush (-2), 2) := by decide +kernel
theorem dX0_add_28 : decode cX0_add 28 = .ok (.ireturn, 1) := by decide +kernel
theorem dX0_add_29 : decode cX0_add 29 = .ok (.aload_n 0, 1) := by decide +kernel
theorem dX0_add_30 : decode cX0_add 30 = .ok (.iload_n 2, 1) := by decide +kernel
theorem dX0_add_31 : decode cX0_add 31 = .ok (.invokevirtual 41, 3) := by decide +kernel
theorem dX0_add_34 : decode cX0_add 34 = .ok (.istore_n 3, 1) := by decide +kernel
theorem dX0_add_35 : decode cX0_add 35 = .ok (.aload_n 0, 1) := by decide +kernel
theorem dX0_add_36 : decode cX0_add 36 = .ok (.iload_n 1, 1) := by decide +kernel
theorem dX0_add_37 : decode cX0_add 37 = .ok (.iload_n 3, 1) := by decide +kernel
theorem dX0_add_38 : decode cX0_add 38 = .ok (.invokevirtual 44, 3) := by decide +kernel
theorem dX0_add_41 : decode cX0_add 41 = .ok (.aload_n 0, 1) := by decide +kernel
theorem dX0_add_42 : decode cX0_add 42 = .ok (.iload_n 1, 1) := by decide +kernel
theorem dX0_add_43 : decode cX0_add 43 = .ok (.iload_n 3, 1) := by decide +kernel
theorem dX0_add_44 : decode cX0_add 44 = .ok (.invokevirtual 48, 3) := by decide +kernel
theorem dX0_add_47 : decode cX0_add 47 = .ok (.ireturn, 1) := by decide +kernel
abbrev cX0_isFilter : ByteArray := prog_1_method_14_code
def yX0_isFilter : MethodName := ⟨RX0, "isFilter", "(I)Z"⟩
theorem dX0_isFilter_0 : decode cX0_isFilter 0 = .ok (.iload_n 1, 1) := by decide +kernel
theorem dX0_isFilter_1 : decode cX0_isFilter 1 = .ok (.ifCond .eq 8, 3) := by decide +kernel
theorem dX0_isFilter_4 : decode cX0_isFilter 4 = .ok (.iload_n 1, 1) := by decide +kernel
theorem dX0_isFilter_5 : decode cX0_isFilter 5 = .ok (.iconst 1, 1) := by decide +kernel
theorem dX0_isFilter_6 : decode cX0_isFilter 6 = .ok (.if_icmp .ne 7, 3) := by decide +kernel
theorem dX0_isFilter_9 : decode cX0_isFilter 9 = .ok (.iconst 1, 1) := by decide +kernel
theorem dX0_isFilter_10 : decode cX0_isFilter 10 = .ok (.goto 4, 3) := by decide +kernel
theorem dX0_isFilter_13 : decode cX0_isFilter 13 = .ok (.iconst 0, 1) := by decide +kernel
theorem dX0_isFilter_14 : decode cX0_isFilter 14 = .ok (.ireturn, 1) := by decide +kernel
abbrev cX0_slots : ByteArray := prog_1_method_15_code
def yX0_slots : MethodName := ⟨RX0, "slots", "(I)I"⟩
theorem dX0_slots_0 : decode cX0_slots 0 = .ok (.iconst 1, 1) := by decide +kernel
theorem dX0_slots_1 : decode cX0_slots 1 = .ok (.aload_n 0, 1) := by decide +kernel
theorem dX0_slots_2 : decode cX0_slots 2 = .ok (.getfield 7, 3) := by decide +kernel
theorem dX0_slots_5 : decode cX0_slots 5 = .ok (.iload_n 1, 1) := by decide +kernel
theorem dX0_slots_6 : decode cX0_slots 6 = .ok (.baload, 1) := by decide +kernel
theorem dX0_slots_7 : decode cX0_slots 7 = .ok (.ishl, 1) := by decide +kernel
theorem dX0_slots_8 : decode cX0_slots 8 = .ok (.ireturn, 1) := by decide +kernel
abbrev cX0_printOf : ByteArray := prog_1_method_13_code
def yX0_printOf : MethodName := ⟨RX0, "printOf", "(I)I"⟩
theorem dX0_printOf_0 : decode cX0_printOf 0 = .ok (.iload_n 1, 1) := by decide +kernel
theorem dX0_printOf_1 : decode cX0_printOf 1 = .ok (.ldc 69, 2) := by decide +kernel
theorem dX0_printOf_3 : decode cX0_printOf 3 = .ok (.imul, 1) := by decide +kernel
theorem dX0_printOf_4 : decode cX0_printOf 4 = .ok (.bipush 24, 2) := by decide +kernel
theorem dX0_printOf_6 : decode cX0_printOf 6 = .ok (.iushr, 1) := by decide +kernel
theorem dX0_printOf_7 : decode cX0_printOf 7 = .ok (.ireturn, 1) := by decide +kernel
abbrev cX0_insert : ByteArray := prog_1_method_27_code
def yX0_insert : MethodName := ⟨RX0, "insert", "(II)V"⟩
theorem dX0_insert_0 : decode cX0_insert 0 = .ok (.aload_n 0, 1) := by decide +kernel
theorem dX0_insert_1 : decode cX0_insert 1 = .ok (.iload_n 1, 1) := by decide +kernel
theorem dX0_insert_2 : decode cX0_insert 2 = .ok (.invokevirtual 70, 3) := by decide +kernel
theorem dX0_insert_5 : decode cX0_insert 5 = .ok (.istore_n 3, 1) := by decide +kernel
theorem dX0_insert_6 : decode cX0_insert 6 = .ok (.aload_n 0, 1) := by decide +kernel
theorem dX0_insert_7 : decode cX0_insert 7 = .ok (.iload_n 1, 1) := by decide +kernel
theorem dX0_insert_8 : decode cX0_insert 8 = .ok (.iload_n 2, 1) := by decide +kernel
theorem dX0_insert_9 : decode cX0_insert 9 = .ok (.invokevirtual 86, 3) := by decide +kernel
theorem dX0_insert_12 : decode cX0_insert 12 = .ok (.istore 4, 2) := by decide +kernel
theorem dX0_insert_14 : decode cX0_insert 14 = .ok (.aload_n 0, 1) := by decide +kernel
theorem dX0_insert_15 : decode cX0_insert 15 = .ok (.iload_n 1, 1) := by decide +kernel
theorem dX0_insert_16 : decode cX0_insert 16 = .ok (.iload_n 2, 1) := by decide +kernel
theorem dX0_insert_17 : decode cX0_insert 17 = .ok (.invokevirtual 89, 3) := by decide +kernel
theorem dX0_insert_20 : decode cX0_insert 20 = .ok (.istore 5, 2) := by decide +kernel
theorem dX0_insert_22 : decode cX0_insert 22 = .ok (.aload_n 0, 1) := by decide +kernel
theorem dX0_insert_23 : decode cX0_insert 23 = .ok (.getfield 13, 3) := by decide +kernel
theorem dX0_insert_26 : decode cX0_insert 26 = .ok (.iload_n 1, 1) := by decide +kernel
theorem dX0_insert_27 : decode cX0_insert 27 = .ok (.dup2, 1) := by decide +kernel
theorem dX0_insert_28 : decode cX0_insert 28 = .ok (.baload, 1) := by decide +kernel
theorem dX0_insert_29 : decode cX0_insert 29 = .ok (.iconst 1, 1) := by decide +kernel
theorem dX0_insert_30 : decode cX0_insert 30 = .ok (.iadd, 1) := by decide +kernel
theorem dX0_insert_31 : decode cX0_insert 31 = .ok (.i2b, 1) := by decide +kernel
theorem dX0_insert_32 : decode cX0_insert 32 = .ok (.bastore, 1) := by decide +kernel
theorem dX0_insert_33 : decode cX0_insert 33 = .ok (.aload_n 0, 1) := by decide +kernel
theorem dX0_insert_34 : decode cX0_insert 34 = .ok (.iload_n 1, 1) := by decide +kernel
theorem dX0_insert_35 : decode cX0_insert 35 = .ok (.iload 4, 2) := by decide +kernel
theorem dX0_insert_37 : decode cX0_insert 37 = .ok (.invokevirtual 95, 3) := by decide +kernel
theorem dX0_insert_40 : decode cX0_insert 40 = .ok (.ifCond .eq 26, 3) := by decide +kernel
theorem dX0_insert_43 : decode cX0_insert 43 = .ok (.aload_n 0, 1) := by decide +kernel
theorem dX0_insert_44 : decode cX0_insert 44 = .ok (.getfield 19, 3) := by decide +kernel
theorem dX0_insert_47 : decode cX0_insert 47 = .ok (.iload_n 3, 1) := by decide +kernel
theorem dX0_insert_48 : decode cX0_insert 48 = .ok (.iload 4, 2) := by decide +kernel
theorem dX0_insert_50 : decode cX0_insert 50 = .ok (.iadd, 1) := by decide +kernel
theorem dX0_insert_51 : decode cX0_insert 51 = .ok (.iconst 1, 1) := by decide +kernel
theorem dX0_insert_52 : decode cX0_insert 52 = .ok (.bastore, 1) := by decide +kernel
theorem dX0_insert_53 : decode cX0_insert 53 = .ok (.aload_n 0, 1) := by decide +kernel
theorem dX0_insert_54 : decode cX0_insert 54 = .ok (.getfield 16, 3) := by decide +kernel
theorem dX0_insert_57 : decode cX0_insert 57 = .ok (.iload_n 3, 1) := by decide +kernel
theorem dX0_insert_58 : decode cX0_insert 58 = .ok (.iload 4, 2) := by decide +kernel
theorem dX0_insert_60 : decode cX0_insert 60 = .ok (.iadd, 1) := by decide +kernel
theorem dX0_insert_61 : decode cX0_insert 61 = .ok (.iload 5, 2) := by decide +kernel
theorem dX0_insert_63 : decode cX0_insert 63 = .ok (.i2b, 1) := by decide +kernel
theorem dX0_insert_64 : decode cX0_insert 64 = .ok (.bastore, 1) := by decide +kernel
theorem dX0_insert_65 : decode cX0_insert 65 = .ok (.return_, 1) := by decide +kernel
theorem dX0_insert_66 : decode cX0_insert 66 = .ok (.aload_n 0, 1) := by decide +kernel
theorem dX0_insert_67 : decode cX0_insert 67 = .ok (.getfield 19, 3) := by decide +kernel
theorem dX0_insert_70 : decode cX0_insert 70 = .ok (.iload_n 3, 1) := by decide +kernel
theorem dX0_insert_71 : decode cX0_insert 71 = .ok (.iload 4, 2) := by decide +kernel
theorem dX0_insert_73 : decode cX0_insert 73 = .ok (.iadd, 1) := by decide +kernel
theorem dX0_insert_74 : decode cX0_insert 74 = .ok (.baload, 1) := by decide +kernel
theorem dX0_insert_75 : decode cX0_insert 75 = .ok (.istore 6, 2) := by decide +kernel
theorem dX0_insert_77 : decode cX0_insert 77 = .ok (.aload_n 0, 1) := by decide +kernel
theorem dX0_insert_78 : decode cX0_insert 78 = .ok (.getfield 19, 3) := by decide +kernel
theorem dX0_insert_81 : decode cX0_insert 81 = .ok (.iload_n 3, 1) := by decide +kernel
theorem dX0_insert_82 : decode cX0_insert 82 = .ok (.iload 4, 2) := by decide +kernel
theorem dX0_insert_84 : decode cX0_insert 84 = .ok (.iadd, 1) := by decide +kernel
theorem dX0_insert_85 : decode cX0_insert 85 = .ok (.iconst 1, 1) := by decide +kernel
theorem dX0_insert_86 : decode cX0_insert 86 = .ok (.bastore, 1) := by decide +kernel
theorem dX0_insert_87 : decode cX0_insert 87 = .ok (.aload_n 0, 1) := by decide +kernel
theorem dX0_insert_88 : decode cX0_insert 88 = .ok (.iload_n 1, 1) := by decide +kernel
theorem dX0_insert_89 : decode cX0_insert 89 = .ok (.iload 4, 2) := by decide +kernel
theorem dX0_insert_91 : decode cX0_insert 91 = .ok (.invokevirtual 92, 3) := by decide +kernel
theorem dX0_insert_94 : decode cX0_insert 94 = .ok (.istore 7, 2) := by decide +kernel
theorem dX0_insert_96 : decode cX0_insert 96 = .ok (.iload 7, 2) := by decide +kernel
theorem dX0_insert_98 : decode cX0_insert 98 = .ok (.istore 8, 2) := by decide +kernel
theorem dX0_insert_100 : decode cX0_insert 100 = .ok (.iload 6, 2) := by decide +kernel
theorem dX0_insert_102 : decode cX0_insert 102 = .ok (.istore 9, 2) := by decide +kernel
theorem dX0_insert_104 : decode cX0_insert 104 = .ok (.iload 9, 2) := by decide +kernel
theorem dX0_insert_106 : decode cX0_insert 106 = .ok (.ifCond .eq 40, 3) := by decide +kernel
theorem dX0_insert_109 : decode cX0_insert 109 = .ok (.aload_n 0, 1) := by decide +kernel
theorem dX0_insert_110 : decode cX0_insert 110 = .ok (.getfield 16, 3) := by decide +kernel
theorem dX0_insert_113 : decode cX0_insert 113 = .ok (.iload_n 3, 1) := by decide +kernel
theorem dX0_insert_114 : decode cX0_insert 114 = .ok (.iload 8, 2) := by decide +kernel
theorem dX0_insert_116 : decode cX0_insert 116 = .ok (.iadd, 1) := by decide +kernel
theorem dX0_insert_117 : decode cX0_insert 117 = .ok (.baload, 1) := by decide +kernel
theorem dX0_insert_118 : decode cX0_insert 118 = .ok (.iload 5, 2) := by decide +kernel
theorem dX0_insert_120 : decode cX0_insert 120 = .ok (.if_icmp .ge 26, 3) := by decide +kernel
theorem dX0_insert_123 : decode cX0_insert 123 = .ok (.aload_n 0, 1) := by decide +kernel
theorem dX0_insert_124 : decode cX0_insert 124 = .ok (.iload_n 1, 1) := by decide +kernel
theorem dX0_insert_125 : decode cX0_insert 125 = .ok (.iload 8, 2) := by decide +kernel
theorem dX0_insert_127 : decode cX0_insert 127 = .ok (.invokevirtual 83, 3) := by decide +kernel
theorem dX0_insert_130 : decode cX0_insert 130 = .ok (.istore 8, 2) := by decide +kernel
theorem dX0_insert_132 : decode cX0_insert 132 = .ok (.aload_n 0, 1) := by decide +kernel
theorem dX0_insert_133 : decode cX0_insert 133 = .ok (.getfield 23, 3) := by decide +kernel
theorem dX0_insert_136 : decode cX0_insert 136 = .ok (.iload_n 3, 1) := by decide +kernel
theorem dX0_insert_137 : decode cX0_insert 137 = .ok (.iload 8, 2) := by decide +kernel
theorem dX0_insert_139 : decode cX0_insert 139 = .ok (.iadd, 1) := by decide +kernel
theorem dX0_insert_140 : decode cX0_insert 140 = .ok (.baload, 1) := by decide +kernel
theorem dX0_insert_141 : decode cX0_insert 141 = .ok (.istore 9, 2) := by decide +kernel
theorem dX0_insert_143 : decode cX0_insert 143 = .ok (.goto (-39), 3) := by decide +kernel
theorem dX0_insert_146 : decode cX0_insert 146 = .ok (.iload 6, 2) := by decide +kernel
theorem dX0_insert_148 : decode cX0_insert 148 = .ok (.ifCond .eq 20, 3) := by decide +kernel
theorem dX0_insert_151 : decode cX0_insert 151 = .ok (.iload 8, 2) := by decide +kernel
theorem dX0_insert_153 : decode cX0_insert 153 = .ok (.iload 7, 2) := by decide +kernel
theorem dX0_insert_155 : decode cX0_insert 155 = .ok (.if_icmp .ne 13, 3) := by decide +kernel
theorem dX0_insert_158 : decode cX0_insert 158 = .ok (.aload_n 0, 1) := by decide +kernel
theorem dX0_insert_159 : decode cX0_insert 159 = .ok (.getfield 23, 3) := by decide +kernel
theorem dX0_insert_162 : decode cX0_insert 162 = .ok (.iload_n 3, 1) := by decide +kernel
theorem dX0_insert_163 : decode cX0_insert 163 = .ok (.iload 7, 2) := by decide +kernel
theorem dX0_insert_165 : decode cX0_insert 165 = .ok (.iadd, 1) := by decide +kernel
theorem dX0_insert_166 : decode cX0_insert 166 = .ok (.iconst 1, 1) := by decide +kernel
theorem dX0_insert_167 : decode cX0_insert 167 = .ok (.bastore, 1) := by decide +kernel
theorem dX0_insert_168 : decode cX0_insert 168 = .ok (.aload_n 0, 1) := by decide +kernel
theorem dX0_insert_169 : decode cX0_insert 169 = .ok (.iload_n 1, 1) := by decide +kernel
theorem dX0_insert_170 : decode cX0_insert 170 = .ok (.iload 8, 2) := by decide +kernel
theorem dX0_insert_172 : decode cX0_insert 172 = .ok (.iload 5, 2) := by decide +kernel
theorem dX0_insert_174 : decode cX0_insert 174 = .ok (.iload 6, 2) := by decide +kernel
theorem dX0_insert_176 : decode cX0_insert 176 = .ok (.ifCond .eq 14, 3) := by decide +kernel
theorem dX0_insert_179 : decode cX0_insert 179 = .ok (.iload 8, 2) := by decide +kernel
theorem dX0_insert_181 : decode cX0_insert 181 = .ok (.iload 7, 2) := by decide +kernel
theorem dX0_insert_183 : decode cX0_insert 183 = .ok (.if_icmp .eq 7, 3) := by decide +kernel
theorem dX0_insert_186 : decode cX0_insert 186 = .ok (.iconst 1, 1) := by decide +kernel
theorem dX0_insert_187 : decode cX0_insert 187 = .ok (.goto 4, 3) := by decide +kernel
theorem dX0_insert_190 : decode cX0_insert 190 = .ok (.iconst 0, 1) := by decide +kernel
theorem dX0_insert_191 : decode cX0_insert 191 = .ok (.iload 8, 2) := by decide +kernel
theorem dX0_insert_193 : decode cX0_insert 193 = .ok (.iload 4, 2) := by decide +kernel
theorem dX0_insert_195 : decode cX0_insert 195 = .ok (.if_icmp .eq 7, 3) := by decide +kernel
theorem dX0_insert_198 : decode cX0_insert 198 = .ok (.iconst 1, 1) := by decide +kernel
theorem dX0_insert_199 : decode cX0_insert 199 = .ok (.goto 4, 3) := by decide +kernel
theorem dX0_insert_202 : decode cX0_insert 202 = .ok (.iconst 0, 1) := by decide +kernel
theorem dX0_insert_203 : decode cX0_insert 203 = .ok (.invokevirtual 98, 3) := by decide +kernel
theorem dX0_insert_206 : decode cX0_insert 206 = .ok (.return_, 1) := by decide +kernel
abbrev cX0_base : ByteArray := prog_1_method_18_code
def yX0_base : MethodName := ⟨RX0, "base", "(I)I"⟩
theorem dX0_base_0 : decode cX0_base 0 = .ok (.bipush 64, 2) := by decide +kernel
theorem dX0_base_2 : decode cX0_base 2 = .ok (.iload_n 1, 1) := by decide +kernel
theorem dX0_base_3 : decode cX0_base 3 = .ok (.imul, 1) := by decide +kernel
theorem dX0_base_4 : decode cX0_base 4 = .ok (.ireturn, 1) := by decide +kernel
abbrev cX0_slotOf : ByteArray := prog_1_method_21_code
def yX0_slotOf : MethodName := ⟨RX0, "slotOf", "(II)I"⟩
theorem dX0_slotOf_0 : decode cX0_slotOf 0 = .ok (.iload_n 2, 1) := by decide +kernel
theorem dX0_slotOf_1 : decode cX0_slotOf 1 = .ok (.bipush 8, 2) := by decide +kernel
theorem dX0_slotOf_3 : decode cX0_slotOf 3 = .ok (.aload_n 0, 1) := by decide +kernel
theorem dX0_slotOf_4 : decode cX0_slotOf 4 = .ok (.getfield 7, 3) := by decide +kernel
theorem dX0_slotOf_7 : decode cX0_slotOf 7 = .ok (.iload_n 1, 1) := by decide +kernel
theorem dX0_slotOf_8 : decode cX0_slotOf 8 = .ok (.baload, 1) := by decide +kernel
theorem dX0_slotOf_9 : decode cX0_slotOf 9 = .ok (.isub, 1) := by decide +kernel
theorem dX0_slotOf_10 : decode cX0_slotOf 10 = .ok (.ishr, 1) := by decide +kernel
theorem dX0_slotOf_11 : decode cX0_slotOf 11 = .ok (.ireturn, 1) := by decide +kernel
abbrev cX0_lowerOf : ByteArray := prog_1_method_22_code
def yX0_lowerOf : MethodName := ⟨RX0, "lowerOf", "(II)I"⟩
theorem dX0_lowerOf_0 : decode cX0_lowerOf 0 = .ok (.iload_n 2, 1) := by decide +kernel
theorem dX0_lowerOf_1 : decode cX0_lowerOf 1 = .ok (.iconst 1, 1) := by decide +kernel
theorem dX0_lowerOf_2 : decode cX0_lowerOf 2 = .ok (.bipush 8, 2) := by decide +kernel
theorem dX0_lowerOf_4 : decode cX0_lowerOf 4 = .ok (.aload_n 0, 1) := by decide +kernel
theorem dX0_lowerOf_5 : decode cX0_lowerOf 5 = .ok (.getfield 7, 3) := by decide +kernel
theorem dX0_lowerOf_8 : decode cX0_lowerOf 8 = .ok (.iload_n 1, 1) := by decide +kernel
theorem dX0_lowerOf_9 : decode cX0_lowerOf 9 = .ok (.baload, 1) := by decide +kernel
theorem dX0_lowerOf_10 : decode cX0_lowerOf 10 = .ok (.isub, 1) := by decide +kernel
theorem dX0_lowerOf_11 : decode cX0_lowerOf 11 = .ok (.ishl, 1) := by decide +kernel
theorem dX0_lowerOf_12 : decode cX0_lowerOf 12 = .ok (.iconst 1, 1) := by decide +kernel
theorem dX0_lowerOf_13 : decode cX0_lowerOf 13 = .ok (.isub, 1) := by decide +kernel
theorem dX0_lowerOf_14 : decode cX0_lowerOf 14 = .ok (.iand, 1) := by decide +kernel
theorem dX0_lowerOf_15 : decode cX0_lowerOf 15 = .ok (.ireturn, 1) := by decide +kernel
abbrev cX0_isFree : ByteArray := prog_1_method_20_code
def yX0_isFree : MethodName := ⟨RX0, "isFree", "(II)Z"⟩
theorem dX0_isFree_0 : decode cX0_isFree 0 = .ok (.aload_n 0, 1) := by decide +kernel
theorem dX0_isFree_1 : decode cX0_isFree 1 = .ok (.iload_n 1, 1) := by decide +kernel
theorem dX0_isFree_2 : decode cX0_isFree 2 = .ok (.iload_n 2, 1) := by decide +kernel
theorem dX0_isFree_3 : decode cX0_isFree 3 = .ok (.invokevirtual 73, 3) := by decide +kernel
theorem dX0_isFree_6 : decode cX0_isFree 6 = .ok (.ifCond .ne 7, 3) := by decide +kernel
theorem dX0_isFree_9 : decode cX0_isFree 9 = .ok (.iconst 1, 1) := by decide +kernel
theorem dX0_isFree_10 : decode cX0_isFree 10 = .ok (.goto 4, 3) := by decide +kernel
theorem dX0_isFree_13 : decode cX0_isFree 13 = .ok (.iconst 0, 1) := by decide +kernel
theorem dX0_isFree_14 : decode cX0_isFree 14 = .ok (.ireturn, 1) := by decide +kernel
abbrev cX0_holds : ByteArray := prog_1_method_19_code
def yX0_holds : MethodName := ⟨RX0, "holds", "(II)Z"⟩
theorem dX0_holds_0 : decode cX0_holds 0 = .ok (.aload_n 0, 1) := by decide +kernel
theorem dX0_holds_1 : decode cX0_holds 1 = .ok (.iload_n 1, 1) := by decide +kernel
theorem dX0_holds_2 : decode cX0_holds 2 = .ok (.invokevirtual 70, 3) := by decide +kernel
theorem dX0_holds_5 : decode cX0_holds 5 = .ok (.iload_n 2, 1) := by decide +kernel
theorem dX0_holds_6 : decode cX0_holds 6 = .ok (.iadd, 1) := by decide +kernel
theorem dX0_holds_7 : decode cX0_holds 7 = .ok (.istore_n 3, 1) := by decide +kernel
theorem dX0_holds_8 : decode cX0_holds 8 = .ok (.aload_n 0, 1) := by decide +kernel
theorem dX0_holds_9 : decode cX0_holds 9 = .ok (.getfield 19, 3) := by decide +kernel
theorem dX0_holds_12 : decode cX0_holds 12 = .ok (.iload_n 3, 1) := by decide +kernel
theorem dX0_holds_13 : decode cX0_holds 13 = .ok (.baload, 1) := by decide +kernel
theorem dX0_holds_14 : decode cX0_holds 14 = .ok (.ifCond .ne 21, 3) := by decide +kernel
theorem dX0_holds_17 : decode cX0_holds 17 = .ok (.aload_n 0, 1) := by decide +kernel
theorem dX0_holds_18 : decode cX0_holds 18 = .ok (.getfield 23, 3) := by decide +kernel
theorem dX0_holds_21 : decode cX0_holds 21 = .ok (.iload_n 3, 1) := by decide +kernel
theorem dX0_holds_22 : decode cX0_holds 22 = .ok (.baload, 1) := by decide +kernel
theorem dX0_holds_23 : decode cX0_holds 23 = .ok (.ifCond .ne 12, 3) := by decide +kernel
theorem dX0_holds_26 : decode cX0_holds 26 = .ok (.aload_n 0, 1) := by decide +kernel
theorem dX0_holds_27 : decode cX0_holds 27 = .ok (.getfield 26, 3) := by decide +kernel
theorem dX0_holds_30 : decode cX0_holds 30 = .ok (.iload_n 3, 1) := by decide +kernel
theorem dX0_holds_31 : decode cX0_holds 31 = .ok (.baload, 1) := by decide +kernel
theorem dX0_holds_32 : decode cX0_holds 32 = .ok (.ifCond .eq 7, 3) := by decide +kernel
theorem dX0_holds_35 : decode cX0_holds 35 = .ok (.iconst 1, 1) := by decide +kernel
theorem dX0_holds_36 : decode cX0_holds 36 = .ok (.goto 4, 3) := by decide +kernel
theorem dX0_holds_39 : decode cX0_holds 39 = .ok (.iconst 0, 1) := by decide +kernel
theorem dX0_holds_40 : decode cX0_holds 40 = .ok (.ireturn, 1) := by decide +kernel
abbrev cX0_runStart : ByteArray := prog_1_method_25_code
def yX0_runStart : MethodName := ⟨RX0, "runStart", "(II)I"⟩
theorem dX0_runStart_0 : decode cX0_runStart 0 = .ok (.aload_n 0, 1) := by decide +kernel
theorem dX0_runStart_1 : decode cX0_runStart 1 = .ok (.iload_n 1, 1) := by decide +kernel
theorem dX0_runStart_2 : decode cX0_runStart 2 = .ok (.invokevirtual 70, 3) := by decide +kernel
theorem dX0_runStart_5 : decode cX0_runStart 5 = .ok (.istore_n 3, 1) := by decide +kernel
theorem dX0_runStart_6 : decode cX0_runStart 6 = .ok (.iload_n 2, 1) := by decide +kernel
theorem dX0_runStart_7 : decode cX0_runStart 7 = .ok (.istore 4, 2) := by decide +kernel
theorem dX0_runStart_9 : decode cX0_runStart 9 = .ok (.aload_n 0, 1) := by decide +kernel
theorem dX0_runStart_10 : decode cX0_runStart 10 = .ok (.getfield 26, 3) := by decide +kernel
theorem dX0_runStart_13 : decode cX0_runStart 13 = .ok (.iload_n 3, 1) := by decide +kernel
theorem dX0_runStart_14 : decode cX0_runStart 14 = .ok (.iload 4, 2) := by decide +kernel
theorem dX0_runStart_16 : decode cX0_runStart 16 = .ok (.iadd, 1) := by decide +kernel
theorem dX0_runStart_17 : decode cX0_runStart 17 = .ok (.baload, 1) := by decide +kernel
theorem dX0_runStart_18 : decode cX0_runStart 18 = .ok (.ifCond .eq 15, 3) := by decide +kernel
theorem dX0_runStart_21 : decode cX0_runStart 21 = .ok (.aload_n 0, 1) := by decide +kernel
theorem dX0_runStart_22 : decode cX0_runStart 22 = .ok (.iload_n 1, 1) := by decide +kernel
theorem dX0_runStart_23 : decode cX0_runStart 23 = .ok (.iload 4, 2) := by decide +kernel
theorem dX0_runStart_25 : decode cX0_runStart 25 = .ok (.invokevirtual 80, 3) := by decide +kernel
theorem dX0_runStart_28 : decode cX0_runStart 28 = .ok (.istore 4, 2) := by decide +kernel
theorem dX0_runStart_30 : decode cX0_runStart 30 = .ok (.goto (-21), 3) := by decide +kernel
theorem dX0_runStart_33 : decode cX0_runStart 33 = .ok (.iload 4, 2) := by decide +kernel
theorem dX0_runStart_35 : decode cX0_runStart 35 = .ok (.istore 5, 2) := by decide +kernel
theorem dX0_runStart_37 : decode cX0_runStart 37 = .ok (.iload 4, 2) := by decide +kernel
theorem dX0_runStart_39 : decode cX0_runStart 39 = .ok (.iload_n 2, 1) := by decide +kernel
theorem dX0_runStart_40 : decode cX0_runStart 40 = .ok (.if_icmp .eq 69, 3) := by decide +kernel
theorem dX0_runStart_43 : decode cX0_runStart 43 = .ok (.aload_n 0, 1) := by decide +kernel
theorem dX0_runStart_44 : decode cX0_runStart 44 = .ok (.iload_n 1, 1) := by decide +kernel
theorem dX0_runStart_45 : decode cX0_runStart 45 = .ok (.iload 5, 2) := by decide +kernel
theorem dX0_runStart_47 : decode cX0_runStart 47 = .ok (.invokevirtual 83, 3) := by decide +kernel
theorem dX0_runStart_50 : decode cX0_runStart 50 = .ok (.istore 5, 2) := by decide +kernel
theorem dX0_runStart_52 : decode cX0_runStart 52 = .ok (.aload_n 0, 1) := by decide +kernel
theorem dX0_runStart_53 : decode cX0_runStart 53 = .ok (.getfield 23, 3) := by decide +kernel
theorem dX0_runStart_56 : decode cX0_runStart 56 = .ok (.iload_n 3, 1) := by decide +kernel
theorem dX0_runStart_57 : decode cX0_runStart 57 = .ok (.iload 5, 2) := by decide +kernel
theorem dX0_runStart_59 : decode cX0_runStart 59 = .ok (.iadd, 1) := by decide +kernel
theorem dX0_runStart_60 : decode cX0_runStart 60 = .ok (.baload, 1) := by decide +kernel
theorem dX0_runStart_61 : decode cX0_runStart 61 = .ok (.ifCond .eq 15, 3) := by decide +kernel
theorem dX0_runStart_64 : decode cX0_runStart 64 = .ok (.aload_n 0, 1) := by decide +kernel
theorem dX0_runStart_65 : decode cX0_runStart 65 = .ok (.iload_n 1, 1) := by decide +kernel
theorem dX0_runStart_66 : decode cX0_runStart 66 = .ok (.iload 5, 2) := by decide +kernel
theorem dX0_runStart_68 : decode cX0_runStart 68 = .ok (.invokevirtual 83, 3) := by decide +kernel
theorem dX0_runStart_71 : decode cX0_runStart 71 = .ok (.istore 5, 2) := by decide +kernel
theorem dX0_runStart_73 : decode cX0_runStart 73 = .ok (.goto (-21), 3) := by decide +kernel
theorem dX0_runStart_76 : decode cX0_runStart 76 = .ok (.aload_n 0, 1) := by decide +kernel
theorem dX0_runStart_77 : decode cX0_runStart 77 = .ok (.iload_n 1, 1) := by decide +kernel
theorem dX0_runStart_78 : decode cX0_runStart 78 = .ok (.iload 4, 2) := by decide +kernel
theorem dX0_runStart_80 : decode cX0_runStart 80 = .ok (.invokevirtual 83, 3) := by decide +kernel
theorem dX0_runStart_83 : decode cX0_runStart 83 = .ok (.istore 4, 2) := by decide +kernel
theorem dX0_runStart_85 : decode cX0_runStart 85 = .ok (.aload_n 0, 1) := by decide +kernel
theorem dX0_runStart_86 : decode cX0_runStart 86 = .ok (.getfield 19, 3) := by decide +kernel
theorem dX0_runStart_89 : decode cX0_runStart 89 = .ok (.iload_n 3, 1) := by decide +kernel
theorem dX0_runStart_90 : decode cX0_runStart 90 = .ok (.iload 4, 2) := by decide +kernel
theorem dX0_runStart_92 : decode cX0_runStart 92 = .ok (.iadd, 1) := by decide +kernel
theorem dX0_runStart_93 : decode cX0_runStart 93 = .ok (.baload, 1) := by decide +kernel
theorem dX0_runStart_94 : decode cX0_runStart 94 = .ok (.ifCond .ne (-57), 3) := by decide +kernel
theorem dX0_runStart_97 : decode cX0_runStart 97 = .ok (.aload_n 0, 1) := by decide +kernel
theorem dX0_runStart_98 : decode cX0_runStart 98 = .ok (.iload_n 1, 1) := by decide +kernel
theorem dX0_runStart_99 : decode cX0_runStart 99 = .ok (.iload 4, 2) := by decide +kernel
theorem dX0_runStart_101 : decode cX0_runStart 101 = .ok (.invokevirtual 83, 3) := by decide +kernel
theorem dX0_runStart_104 : decode cX0_runStart 104 = .ok (.istore 4, 2) := by decide +kernel
theorem dX0_runStart_106 : decode cX0_runStart 106 = .ok (.goto (-21), 3) := by decide +kernel
theorem dX0_runStart_109 : decode cX0_runStart 109 = .ok (.iload 5, 2) := by decide +kernel
theorem dX0_runStart_111 : decode cX0_runStart 111 = .ok (.ireturn, 1) := by decide +kernel
abbrev cX0_beforeSlot : ByteArray := prog_1_method_17_code
def yX0_beforeSlot : MethodName := ⟨RX0, "beforeSlot", "(II)I"⟩
theorem dX0_beforeSlot_0 : decode cX0_beforeSlot 0 = .ok (.iload_n 2, 1) := by decide +kernel
theorem dX0_beforeSlot_1 : decode cX0_beforeSlot 1 = .ok (.iconst 1, 1) := by decide +kernel
theorem dX0_beforeSlot_2 : decode cX0_beforeSlot 2 = .ok (.isub, 1) := by decide +kernel
theorem dX0_beforeSlot_3 : decode cX0_beforeSlot 3 = .ok (.aload_n 0, 1) := by decide +kernel
theorem dX0_beforeSlot_4 : decode cX0_beforeSlot 4 = .ok (.iload_n 1, 1) := by decide +kernel
theorem dX0_beforeSlot_5 : decode cX0_beforeSlot 5 = .ok (.invokevirtual 37, 3) := by decide +kernel
theorem dX0_beforeSlot_8 : decode cX0_beforeSlot 8 = .ok (.iconst 1, 1) := by decide +kernel
theorem dX0_beforeSlot_9 : decode cX0_beforeSlot 9 = .ok (.isub, 1) := by decide +kernel
theorem dX0_beforeSlot_10 : decode cX0_beforeSlot 10 = .ok (.iand, 1) := by decide +kernel
theorem dX0_beforeSlot_11 : decode cX0_beforeSlot 11 = .ok (.ireturn, 1) := by decide +kernel
abbrev cX0_after : ByteArray := prog_1_method_16_code
def yX0_after : MethodName := ⟨RX0, "after", "(II)I"⟩
theorem dX0_after_0 : decode cX0_after 0 = .ok (.iload_n 2, 1) := by decide +kernel
theorem dX0_after_1 : decode cX0_after 1 = .ok (.iconst 1, 1) := by decide +kernel
theorem dX0_after_2 : decode cX0_after 2 = .ok (.iadd, 1) := by decide +kernel
theorem dX0_after_3 : decode cX0_after 3 = .ok (.aload_n 0, 1) := by decide +kernel
theorem dX0_after_4 : decode cX0_after 4 = .ok (.iload_n 1, 1) := by decide +kernel
theorem dX0_after_5 : decode cX0_after 5 = .ok (.invokevirtual 37, 3) := by decide +kernel
theorem dX0_after_8 : decode cX0_after 8 = .ok (.iconst 1, 1) := by decide +kernel
theorem dX0_after_9 : decode cX0_after 9 = .ok (.isub, 1) := by decide +kernel
theorem dX0_after_10 : decode cX0_after 10 = .ok (.iand, 1) := by decide +kernel
theorem dX0_after_11 : decode cX0_after 11 = .ok (.ireturn, 1) := by decide +kernel
end
section
set_option maxRecDepth 100000
abbrev cX0_push : ByteArray := prog_1_method_28_code
def yX0_push : MethodName := ⟨RX0, "push", "(IIIZZ)V"⟩
theorem dX0_push_0 : decode cX0_push 0 = .ok (.aload_n 0, 1) := by decide +kernel
theorem dX0_push_1 : decode cX0_push 1 = .ok (.iload_n 1, 1) := by decide +kernel
theorem dX0_push_2 : decode cX0_push 2 = .ok (.invokevirtual 70, 3) := by decide +kernel
theorem dX0_push_5 : decode cX0_push 5 = .ok (.istore 6, 2) := by decide +kernel
theorem dX0_push_7 : decode cX0_push 7 = .ok (.iload_n 2, 1) := by decide +kernel
theorem dX0_push_8 : decode cX0_push 8 = .ok (.istore 7, 2) := by decide +kernel
theorem dX0_push_10 : decode cX0_push 10 = .ok (.iload_n 3, 1) := by decide +kernel
theorem dX0_push_11 : decode cX0_push 11 = .ok (.istore 8, 2) := by decide +kernel
theorem dX0_push_13 : decode cX0_push 13 = .ok (.iload 4, 2) := by decide +kernel
theorem dX0_push_15 : decode cX0_push 15 = .ok (.istore 9, 2) := by decide +kernel
theorem dX0_push_17 : decode cX0_push 17 = .ok (.iload 5, 2) := by decide +kernel
theorem dX0_push_19 : decode cX0_push 19 = .ok (.istore 10, 2) := by decide +kernel
theorem dX0_push_21 : decode cX0_push 21 = .ok (.iconst 1, 1) := by decide +kernel
theorem dX0_push_22 : decode cX0_push 22 = .ok (.istore 11, 2) := by decide +kernel
theorem dX0_push_24 : decode cX0_push 24 = .ok (.iload 11, 2) := by decide +kernel
theorem dX0_push_26 : decode cX0_push 26 = .ok (.ifCond .eq 96, 3) := by decide +kernel
theorem dX0_push_29 : decode cX0_push 29 = .ok (.aload_n 0, 1) := by decide +kernel
theorem dX0_push_30 : decode cX0_push 30 = .ok (.iload_n 1, 1) := by decide +kernel
theorem dX0_push_31 : decode cX0_push 31 = .ok (.iload 7, 2) := by decide +kernel
theorem dX0_push_33 : decode cX0_push 33 = .ok (.invokevirtual 73, 3) := by decide +kernel
theorem dX0_push_36 : decode cX0_push 36 = .ok (.istore 11, 2) := by decide +kernel
theorem dX0_push_38 : decode cX0_push 38 = .ok (.aload_n 0, 1) := by decide +kernel
theorem dX0_push_39 : decode cX0_push 39 = .ok (.getfield 16, 3) := by decide +kernel
theorem dX0_push_42 : decode cX0_push 42 = .ok (.iload 6, 2) := by decide +kernel
theorem dX0_push_44 : decode cX0_push 44 = .ok (.iload 7, 2) := by decide +kernel
theorem dX0_push_46 : decode cX0_push 46 = .ok (.iadd, 1) := by decide +kernel
theorem dX0_push_47 : decode cX0_push 47 = .ok (.baload, 1) := by decide +kernel
theorem dX0_push_48 : decode cX0_push 48 = .ok (.istore 12, 2) := by decide +kernel
theorem dX0_push_50 : decode cX0_push 50 = .ok (.aload_n 0, 1) := by decide +kernel
theorem dX0_push_51 : decode cX0_push 51 = .ok (.getfield 23, 3) := by decide +kernel
theorem dX0_push_54 : decode cX0_push 54 = .ok (.iload 6, 2) := by decide +kernel
theorem dX0_push_56 : decode cX0_push 56 = .ok (.iload 7, 2) := by decide +kernel
theorem dX0_push_58 : decode cX0_push 58 = .ok (.iadd, 1) := by decide +kernel
theorem dX0_push_59 : decode cX0_push 59 = .ok (.baload, 1) := by decide +kernel
theorem dX0_push_60 : decode cX0_push 60 = .ok (.istore 13, 2) := by decide +kernel
theorem dX0_push_62 : decode cX0_push 62 = .ok (.aload_n 0, 1) := by decide +kernel
theorem dX0_push_63 : decode cX0_push 63 = .ok (.getfield 16, 3) := by decide +kernel
theorem dX0_push_66 : decode cX0_push 66 = .ok (.iload 6, 2) := by decide +kernel
theorem dX0_push_68 : decode cX0_push 68 = .ok (.iload 7, 2) := by decide +kernel
theorem dX0_push_70 : decode cX0_push 70 = .ok (.iadd, 1) := by decide +kernel
theorem dX0_push_71 : decode cX0_push 71 = .ok (.iload 8, 2) := by decide +kernel
theorem dX0_push_73 : decode cX0_push 73 = .ok (.i2b, 1) := by decide +kernel
theorem dX0_push_74 : decode cX0_push 74 = .ok (.bastore, 1) := by decide +kernel
theorem dX0_push_75 : decode cX0_push 75 = .ok (.aload_n 0, 1) := by decide +kernel
theorem dX0_push_76 : decode cX0_push 76 = .ok (.getfield 23, 3) := by decide +kernel
theorem dX0_push_79 : decode cX0_push 79 = .ok (.iload 6, 2) := by decide +kernel
theorem dX0_push_81 : decode cX0_push 81 = .ok (.iload 7, 2) := by decide +kernel
theorem dX0_push_83 : decode cX0_push 83 = .ok (.iadd, 1) := by decide +kernel
theorem dX0_push_84 : decode cX0_push 84 = .ok (.iload 9, 2) := by decide +kernel
theorem dX0_push_86 : decode cX0_push 86 = .ok (.bastore, 1) := by decide +kernel
theorem dX0_push_87 : decode cX0_push 87 = .ok (.aload_n 0, 1) := by decide +kernel
theorem dX0_push_88 : decode cX0_push 88 = .ok (.getfield 26, 3) := by decide +kernel
theorem dX0_push_91 : decode cX0_push 91 = .ok (.iload 6, 2) := by decide +kernel
theorem dX0_push_93 : decode cX0_push 93 = .ok (.iload 7, 2) := by decide +kernel
theorem dX0_push_95 : decode cX0_push 95 = .ok (.iadd, 1) := by decide +kernel
theorem dX0_push_96 : decode cX0_push 96 = .ok (.iload 10, 2) := by decide +kernel
theorem dX0_push_98 : decode cX0_push 98 = .ok (.bastore, 1) := by decide +kernel
theorem dX0_push_99 : decode cX0_push 99 = .ok (.iload 12, 2) := by decide +kernel
theorem dX0_push_101 : decode cX0_push 101 = .ok (.istore 8, 2) := by decide +kernel
theorem dX0_push_103 : decode cX0_push 103 = .ok (.iload 13, 2) := by decide +kernel
theorem dX0_push_105 : decode cX0_push 105 = .ok (.istore 9, 2) := by decide +kernel
theorem dX0_push_107 : decode cX0_push 107 = .ok (.iconst 1, 1) := by decide +kernel
theorem dX0_push_108 : decode cX0_push 108 = .ok (.istore 10, 2) := by decide +kernel
theorem dX0_push_110 : decode cX0_push 110 = .ok (.aload_n 0, 1) := by decide +kernel
theorem dX0_push_111 : decode cX0_push 111 = .ok (.iload_n 1, 1) := by decide +kernel
theorem dX0_push_112 : decode cX0_push 112 = .ok (.iload 7, 2) := by decide +kernel
theorem dX0_push_114 : decode cX0_push 114 = .ok (.invokevirtual 83, 3) := by decide +kernel
theorem dX0_push_117 : decode cX0_push 117 = .ok (.istore 7, 2) := by decide +kernel
theorem dX0_push_119 : decode cX0_push 119 = .ok (.goto (-95), 3) := by decide +kernel
theorem dX0_push_122 : decode cX0_push 122 = .ok (.return_, 1) := by decide +kernel
abbrev cX0_timesOf : ByteArray := prog_1_method_26_code
def yX0_timesOf : MethodName := ⟨RX0, "timesOf", "(II)I"⟩
theorem dX0_timesOf_0 : decode cX0_timesOf 0 = .ok (.aload_n 0, 1) := by decide +kernel
theorem dX0_timesOf_1 : decode cX0_timesOf 1 = .ok (.iload_n 1, 1) := by decide +kernel
theorem dX0_timesOf_2 : decode cX0_timesOf 2 = .ok (.iload_n 2, 1) := by decide +kernel
theorem dX0_timesOf_3 : decode cX0_timesOf 3 = .ok (.invokevirtual 86, 3) := by decide +kernel
theorem dX0_timesOf_6 : decode cX0_timesOf 6 = .ok (.istore_n 3, 1) := by decide +kernel
theorem dX0_timesOf_7 : decode cX0_timesOf 7 = .ok (.aload_n 0, 1) := by decide +kernel
theorem dX0_timesOf_8 : decode cX0_timesOf 8 = .ok (.iload_n 1, 1) := by decide +kernel
theorem dX0_timesOf_9 : decode cX0_timesOf 9 = .ok (.iload_n 2, 1) := by decide +kernel
theorem dX0_timesOf_10 : decode cX0_timesOf 10 = .ok (.invokevirtual 89, 3) := by decide +kernel
theorem dX0_timesOf_13 : decode cX0_timesOf 13 = .ok (.istore 4, 2) := by decide +kernel
theorem dX0_timesOf_15 : decode cX0_timesOf 15 = .ok (.aload_n 0, 1) := by decide +kernel
theorem dX0_timesOf_16 : decode cX0_timesOf 16 = .ok (.getfield 19, 3) := by decide +kernel
theorem dX0_timesOf_19 : decode cX0_timesOf 19 = .ok (.aload_n 0, 1) := by decide +kernel
theorem dX0_timesOf_20 : decode cX0_timesOf 20 = .ok (.iload_n 1, 1) := by decide +kernel
theorem dX0_timesOf_21 : decode cX0_timesOf 21 = .ok (.invokevirtual 70, 3) := by decide +kernel
theorem dX0_timesOf_24 : decode cX0_timesOf 24 = .ok (.iload_n 3, 1) := by decide +kernel
theorem dX0_timesOf_25 : decode cX0_timesOf 25 = .ok (.iadd, 1) := by decide +kernel
theorem dX0_timesOf_26 : decode cX0_timesOf 26 = .ok (.baload, 1) := by decide +kernel
theorem dX0_timesOf_27 : decode cX0_timesOf 27 = .ok (.ifCond .ne 5, 3) := by decide +kernel
theorem dX0_timesOf_30 : decode cX0_timesOf 30 = .ok (.iconst 0, 1) := by decide +kernel
theorem dX0_timesOf_31 : decode cX0_timesOf 31 = .ok (.ireturn, 1) := by decide +kernel
theorem dX0_timesOf_32 : decode cX0_timesOf 32 = .ok (.aload_n 0, 1) := by decide +kernel
theorem dX0_timesOf_33 : decode cX0_timesOf 33 = .ok (.iload_n 1, 1) := by decide +kernel
theorem dX0_timesOf_34 : decode cX0_timesOf 34 = .ok (.iload_n 3, 1) := by decide +kernel
theorem dX0_timesOf_35 : decode cX0_timesOf 35 = .ok (.invokevirtual 92, 3) := by decide +kernel
theorem dX0_timesOf_38 : decode cX0_timesOf 38 = .ok (.istore 5, 2) := by decide +kernel
theorem dX0_timesOf_40 : decode cX0_timesOf 40 = .ok (.iconst 0, 1) := by decide +kernel
theorem dX0_timesOf_41 : decode cX0_timesOf 41 = .ok (.istore 6, 2) := by decide +kernel
theorem dX0_timesOf_43 : decode cX0_timesOf 43 = .ok (.iconst 1, 1) := by decide +kernel
theorem dX0_timesOf_44 : decode cX0_timesOf 44 = .ok (.istore 7, 2) := by decide +kernel
theorem dX0_timesOf_46 : decode cX0_timesOf 46 = .ok (.iload 7, 2) := by decide +kernel
theorem dX0_timesOf_48 : decode cX0_timesOf 48 = .ok (.ifCond .eq 51, 3) := by decide +kernel
theorem dX0_timesOf_51 : decode cX0_timesOf 51 = .ok (.aload_n 0, 1) := by decide +kernel
theorem dX0_timesOf_52 : decode cX0_timesOf 52 = .ok (.getfield 16, 3) := by decide +kernel
theorem dX0_timesOf_55 : decode cX0_timesOf 55 = .ok (.aload_n 0, 1) := by decide +kernel
theorem dX0_timesOf_56 : decode cX0_timesOf 56 = .ok (.iload_n 1, 1) := by decide +kernel
theorem dX0_timesOf_57 : decode cX0_timesOf 57 = .ok (.invokevirtual 70, 3) := by decide +kernel
theorem dX0_timesOf_60 : decode cX0_timesOf 60 = .ok (.iload 5, 2) := by decide +kernel
theorem dX0_timesOf_62 : decode cX0_timesOf 62 = .ok (.iadd, 1) := by decide +kernel
theorem dX0_timesOf_63 : decode cX0_timesOf 63 = .ok (.baload, 1) := by decide +kernel
theorem dX0_timesOf_64 : decode cX0_timesOf 64 = .ok (.iload 4, 2) := by decide +kernel
theorem dX0_timesOf_66 : decode cX0_timesOf 66 = .ok (.if_icmp .ne 6, 3) := by decide +kernel
theorem dX0_timesOf_69 : decode cX0_timesOf 69 = .ok (.iinc 6 1, 3) := by decide +kernel
theorem dX0_timesOf_72 : decode cX0_timesOf 72 = .ok (.aload_n 0, 1) := by decide +kernel
theorem dX0_timesOf_73 : decode cX0_timesOf 73 = .ok (.iload_n 1, 1) := by decide +kernel
theorem dX0_timesOf_74 : decode cX0_timesOf 74 = .ok (.iload 5, 2) := by decide +kernel
theorem dX0_timesOf_76 : decode cX0_timesOf 76 = .ok (.invokevirtual 83, 3) := by decide +kernel
theorem dX0_timesOf_79 : decode cX0_timesOf 79 = .ok (.istore 5, 2) := by decide +kernel
theorem dX0_timesOf_81 : decode cX0_timesOf 81 = .ok (.aload_n 0, 1) := by decide +kernel
theorem dX0_timesOf_82 : decode cX0_timesOf 82 = .ok (.getfield 23, 3) := by decide +kernel
theorem dX0_timesOf_85 : decode cX0_timesOf 85 = .ok (.aload_n 0, 1) := by decide +kernel
theorem dX0_timesOf_86 : decode cX0_timesOf 86 = .ok (.iload_n 1, 1) := by decide +kernel
theorem dX0_timesOf_87 : decode cX0_timesOf 87 = .ok (.invokevirtual 70, 3) := by decide +kernel
theorem dX0_timesOf_90 : decode cX0_timesOf 90 = .ok (.iload 5, 2) := by decide +kernel
theorem dX0_timesOf_92 : decode cX0_timesOf 92 = .ok (.iadd, 1) := by decide +kernel
theorem dX0_timesOf_93 : decode cX0_timesOf 93 = .ok (.baload, 1) := by decide +kernel
theorem dX0_timesOf_94 : decode cX0_timesOf 94 = .ok (.istore 7, 2) := by decide +kernel
theorem dX0_timesOf_96 : decode cX0_timesOf 96 = .ok (.goto (-50), 3) := by decide +kernel
theorem dX0_timesOf_99 : decode cX0_timesOf 99 = .ok (.iload 6, 2) := by decide +kernel
theorem dX0_timesOf_101 : decode cX0_timesOf 101 = .ok (.ireturn, 1) := by decide +kernel
abbrev cX0_remove : ByteArray := prog_1_method_3_code
def yX0_remove : MethodName := ⟨RX0, "remove", "(II)I"⟩
theorem dX0_remove_0 : decode cX0_remove 0 = .ok (.aload_n 0, 1) := by decide +kernel
theorem dX0_remove_1 : decode cX0_remove 1 = .ok (.iload_n 1, 1) := by decide +kernel
theorem dX0_remove_2 : decode cX0_remove 2 = .ok (.invokevirtual 33, 3) := by decide +kernel
theorem dX0_remove_5 : decode cX0_remove 5 = .ok (.ifCond .ne 5, 3) := by decide +kernel
theorem dX0_remove_8 : decode cX0_remove 8 = .ok (.iconst (-1), 1) := by decide +kernel
theorem dX0_remove_9 : decode cX0_remove 9 = .ok (.ireturn, 1) := by decide +kernel
theorem dX0_remove_10 : decode cX0_remove 10 = .ok (.aload_n 0, 1) := by decide +kernel
theorem dX0_remove_11 : decode cX0_remove 11 = .ok (.iload_n 2, 1) := by decide +kernel
theorem dX0_remove_12 : decode cX0_remove 12 = .ok (.invokevirtual 41, 3) := by decide +kernel
theorem dX0_remove_15 : decode cX0_remove 15 = .ok (.istore_n 3, 1) := by decide +kernel
theorem dX0_remove_16 : decode cX0_remove 16 = .ok (.aload_n 0, 1) := by decide +kernel
theorem dX0_remove_17 : decode cX0_remove 17 = .ok (.iload_n 1, 1) := by decide +kernel
theorem dX0_remove_18 : decode cX0_remove 18 = .ok (.iload_n 3, 1) := by decide +kernel
theorem dX0_remove_19 : decode cX0_remove 19 = .ok (.invokevirtual 48, 3) := by decide +kernel
theorem dX0_remove_22 : decode cX0_remove 22 = .ok (.istore 4, 2) := by decide +kernel
theorem dX0_remove_24 : decode cX0_remove 24 = .ok (.iload 4, 2) := by decide +kernel
theorem dX0_remove_26 : decode cX0_remove 26 = .ok (.ifCond .ne 6, 3) := by decide +kernel
theorem dX0_remove_29 : decode cX0_remove 29 = .ok (.bipush (-3), 2) := by decide +kernel
theorem dX0_remove_31 : decode cX0_remove 31 = .ok (.ireturn, 1) := by decide +kernel
theorem dX0_remove_32 : decode cX0_remove 32 = .ok (.aload_n 0, 1) := by decide +kernel
theorem dX0_remove_33 : decode cX0_remove 33 = .ok (.iload_n 1, 1) := by decide +kernel
theorem dX0_remove_34 : decode cX0_remove 34 = .ok (.iload_n 3, 1) := by decide +kernel
theorem dX0_remove_35 : decode cX0_remove 35 = .ok (.invokevirtual 52, 3) := by decide +kernel
theorem dX0_remove_38 : decode cX0_remove 38 = .ok (.iload 4, 2) := by decide +kernel
theorem dX0_remove_40 : decode cX0_remove 40 = .ok (.iconst 1, 1) := by decide +kernel
theorem dX0_remove_41 : decode cX0_remove 41 = .ok (.isub, 1) := by decide +kernel
theorem dX0_remove_42 : decode cX0_remove 42 = .ok (.ireturn, 1) := by decide +kernel
abbrev cX0_takeOut : ByteArray := prog_1_method_29_code
def yX0_takeOut : MethodName := ⟨RX0, "takeOut", "(II)V"⟩
theorem dX0_takeOut_0 : decode cX0_takeOut 0 = .ok (.aload_n 0, 1) := by decide +kernel
theorem dX0_takeOut_1 : decode cX0_takeOut 1 = .ok (.iload_n 1, 1) := by decide +kernel
theorem dX0_takeOut_2 : decode cX0_takeOut 2 = .ok (.iload_n 2, 1) := by decide +kernel
theorem dX0_takeOut_3 : decode cX0_takeOut 3 = .ok (.invokevirtual 86, 3) := by decide +kernel
theorem dX0_takeOut_6 : decode cX0_takeOut 6 = .ok (.istore_n 3, 1) := by decide +kernel
theorem dX0_takeOut_7 : decode cX0_takeOut 7 = .ok (.iload_n 3, 1) := by decide +kernel
theorem dX0_takeOut_8 : decode cX0_takeOut 8 = .ok (.istore 4, 2) := by decide +kernel
theorem dX0_takeOut_10 : decode cX0_takeOut 10 = .ok (.aload_n 0, 1) := by decide +kernel
theorem dX0_takeOut_11 : decode cX0_takeOut 11 = .ok (.iload_n 1, 1) := by decide +kernel
theorem dX0_takeOut_12 : decode cX0_takeOut 12 = .ok (.iload 4, 2) := by decide +kernel
theorem dX0_takeOut_14 : decode cX0_takeOut 14 = .ok (.invokevirtual 95, 3) := by decide +kernel
theorem dX0_takeOut_17 : decode cX0_takeOut 17 = .ok (.ifCond .ne 15, 3) := by decide +kernel
theorem dX0_takeOut_20 : decode cX0_takeOut 20 = .ok (.aload_n 0, 1) := by decide +kernel
theorem dX0_takeOut_21 : decode cX0_takeOut 21 = .ok (.iload_n 1, 1) := by decide +kernel
theorem dX0_takeOut_22 : decode cX0_takeOut 22 = .ok (.iload 4, 2) := by decide +kernel
theorem dX0_takeOut_24 : decode cX0_takeOut 24 = .ok (.invokevirtual 80, 3) := by decide +kernel
theorem dX0_takeOut_27 : decode cX0_takeOut 27 = .ok (.istore 4, 2) := by decide +kernel
theorem dX0_takeOut_29 : decode cX0_takeOut 29 = .ok (.goto (-19), 3) := by decide +kernel
theorem dX0_takeOut_32 : decode cX0_takeOut 32 = .ok (.aload_n 0, 1) := by decide +kernel
theorem dX0_takeOut_33 : decode cX0_takeOut 33 = .ok (.iload_n 1, 1) := by decide +kernel
theorem dX0_takeOut_34 : decode cX0_takeOut 34 = .ok (.iload 4, 2) := by decide +kernel
theorem dX0_takeOut_36 : decode cX0_takeOut 36 = .ok (.invokevirtual 83, 3) := by decide +kernel
theorem dX0_takeOut_39 : decode cX0_takeOut 39 = .ok (.istore 4, 2) := by decide +kernel
theorem dX0_takeOut_41 : decode cX0_takeOut 41 = .ok (.aload_n 0, 1) := by decide +kernel
theorem dX0_takeOut_42 : decode cX0_takeOut 42 = .ok (.iload_n 1, 1) := by decide +kernel
theorem dX0_takeOut_43 : decode cX0_takeOut 43 = .ok (.iload 4, 2) := by decide +kernel
theorem dX0_takeOut_45 : decode cX0_takeOut 45 = .ok (.iconst 0, 1) := by decide +kernel
theorem dX0_takeOut_46 : decode cX0_takeOut 46 = .ok (.invokevirtual 102, 3) := by decide +kernel
theorem dX0_takeOut_49 : decode cX0_takeOut 49 = .ok (.istore 5, 2) := by decide +kernel
theorem dX0_takeOut_51 : decode cX0_takeOut 51 = .ok (.iload 4, 2) := by decide +kernel
theorem dX0_takeOut_53 : decode cX0_takeOut 53 = .ok (.istore 6, 2) := by decide +kernel
theorem dX0_takeOut_55 : decode cX0_takeOut 55 = .ok (.iload 6, 2) := by decide +kernel
theorem dX0_takeOut_57 : decode cX0_takeOut 57 = .ok (.iload 5, 2) := by decide +kernel
theorem dX0_takeOut_59 : decode cX0_takeOut 59 = .ok (.if_icmp .eq 22, 3) := by decide +kernel
theorem dX0_takeOut_62 : decode cX0_takeOut 62 = .ok (.aload_n 0, 1) := by decide +kernel
theorem dX0_takeOut_63 : decode cX0_takeOut 63 = .ok (.iload_n 1, 1) := by decide +kernel
theorem dX0_takeOut_64 : decode cX0_takeOut 64 = .ok (.iload 6, 2) := by decide +kernel
theorem dX0_takeOut_66 : decode cX0_takeOut 66 = .ok (.invokevirtual 77, 3) := by decide +kernel
theorem dX0_takeOut_69 : decode cX0_takeOut 69 = .ok (.aload_n 0, 1) := by decide +kernel
theorem dX0_takeOut_70 : decode cX0_takeOut 70 = .ok (.iload_n 1, 1) := by decide +kernel
theorem dX0_takeOut_71 : decode cX0_takeOut 71 = .ok (.iload 6, 2) := by decide +kernel
theorem dX0_takeOut_73 : decode cX0_takeOut 73 = .ok (.invokevirtual 83, 3) := by decide +kernel
theorem dX0_takeOut_76 : decode cX0_takeOut 76 = .ok (.istore 6, 2) := by decide +kernel
theorem dX0_takeOut_78 : decode cX0_takeOut 78 = .ok (.goto (-23), 3) := by decide +kernel
theorem dX0_takeOut_81 : decode cX0_takeOut 81 = .ok (.aload_n 0, 1) := by decide +kernel
theorem dX0_takeOut_82 : decode cX0_takeOut 82 = .ok (.getfield 13, 3) := by decide +kernel
theorem dX0_takeOut_85 : decode cX0_takeOut 85 = .ok (.iload_n 1, 1) := by decide +kernel
theorem dX0_takeOut_86 : decode cX0_takeOut 86 = .ok (.dup2, 1) := by decide +kernel
theorem dX0_takeOut_87 : decode cX0_takeOut 87 = .ok (.baload, 1) := by decide +kernel
theorem dX0_takeOut_88 : decode cX0_takeOut 88 = .ok (.aload_n 0, 1) := by decide +kernel
theorem dX0_takeOut_89 : decode cX0_takeOut 89 = .ok (.getfield 59, 3) := by decide +kernel
theorem dX0_takeOut_92 : decode cX0_takeOut 92 = .ok (.isub, 1) := by decide +kernel
theorem dX0_takeOut_93 : decode cX0_takeOut 93 = .ok (.i2b, 1) := by decide +kernel
theorem dX0_takeOut_94 : decode cX0_takeOut 94 = .ok (.bastore, 1) := by decide +kernel
theorem dX0_takeOut_95 : decode cX0_takeOut 95 = .ok (.iconst 0, 1) := by decide +kernel
theorem dX0_takeOut_96 : decode cX0_takeOut 96 = .ok (.istore 6, 2) := by decide +kernel
theorem dX0_takeOut_98 : decode cX0_takeOut 98 = .ok (.iconst 0, 1) := by decide +kernel
theorem dX0_takeOut_99 : decode cX0_takeOut 99 = .ok (.istore 7, 2) := by decide +kernel
theorem dX0_takeOut_101 : decode cX0_takeOut 101 = .ok (.iload 7, 2) := by decide +kernel
theorem dX0_takeOut_103 : decode cX0_takeOut 103 = .ok (.aload_n 0, 1) := by decide +kernel
theorem dX0_takeOut_104 : decode cX0_takeOut 104 = .ok (.getfield 59, 3) := by decide +kernel
theorem dX0_takeOut_107 : decode cX0_takeOut 107 = .ok (.if_icmp .ge 43, 3) := by decide +kernel
theorem dX0_takeOut_110 : decode cX0_takeOut 110 = .ok (.iload 6, 2) := by decide +kernel
theorem dX0_takeOut_112 : decode cX0_takeOut 112 = .ok (.ifCond .ne 20, 3) := by decide +kernel
theorem dX0_takeOut_115 : decode cX0_takeOut 115 = .ok (.aload_n 0, 1) := by decide +kernel
theorem dX0_takeOut_116 : decode cX0_takeOut 116 = .ok (.getfield 29, 3) := by decide +kernel
theorem dX0_takeOut_119 : decode cX0_takeOut 119 = .ok (.iload 7, 2) := by decide +kernel
theorem dX0_takeOut_121 : decode cX0_takeOut 121 = .ok (.saload, 1) := by decide +kernel
theorem dX0_takeOut_122 : decode cX0_takeOut 122 = .ok (.iload_n 2, 1) := by decide +kernel
theorem dX0_takeOut_123 : decode cX0_takeOut 123 = .ok (.if_icmp .ne 9, 3) := by decide +kernel
theorem dX0_takeOut_126 : decode cX0_takeOut 126 = .ok (.iconst 1, 1) := by decide +kernel
theorem dX0_takeOut_127 : decode cX0_takeOut 127 = .ok (.istore 6, 2) := by decide +kernel
theorem dX0_takeOut_129 : decode cX0_takeOut 129 = .ok (.goto 15, 3) := by decide +kernel
theorem dX0_takeOut_132 : decode cX0_takeOut 132 = .ok (.aload_n 0, 1) := by decide +kernel
theorem dX0_takeOut_133 : decode cX0_takeOut 133 = .ok (.iload_n 1, 1) := by decide +kernel
theorem dX0_takeOut_134 : decode cX0_takeOut 134 = .ok (.aload_n 0, 1) := by decide +kernel
theorem dX0_takeOut_135 : decode cX0_takeOut 135 = .ok (.getfield 29, 3) := by decide +kernel
theorem dX0_takeOut_138 : decode cX0_takeOut 138 = .ok (.iload 7, 2) := by decide +kernel
theorem dX0_takeOut_140 : decode cX0_takeOut 140 = .ok (.saload, 1) := by decide +kernel
theorem dX0_takeOut_141 : decode cX0_takeOut 141 = .ok (.invokevirtual 44, 3) := by decide +kernel
theorem dX0_takeOut_144 : decode cX0_takeOut 144 = .ok (.iinc 7 1, 3) := by decide +kernel
theorem dX0_takeOut_147 : decode cX0_takeOut 147 = .ok (.goto (-46), 3) := by decide +kernel
theorem dX0_takeOut_150 : decode cX0_takeOut 150 = .ok (.return_, 1) := by decide +kernel
abbrev cX0_readStretch : ByteArray := prog_1_method_30_code
def yX0_readStretch : MethodName := ⟨RX0, "readStretch", "(III)I"⟩
theorem dX0_readStretch_0 : decode cX0_readStretch 0 = .ok (.aload_n 0, 1) := by decide +kernel
theorem dX0_readStretch_1 : decode cX0_readStretch 1 = .ok (.iload_n 1, 1) := by decide +kernel
theorem dX0_readStretch_2 : decode cX0_readStretch 2 = .ok (.invokevirtual 70, 3) := by decide +kernel
theorem dX0_readStretch_5 : decode cX0_readStretch 5 = .ok (.istore 4, 2) := by decide +kernel
theorem dX0_readStretch_7 : decode cX0_readStretch 7 = .ok (.iload_n 2, 1) := by decide +kernel
theorem dX0_readStretch_8 : decode cX0_readStretch 8 = .ok (.istore 5, 2) := by decide +kernel
theorem dX0_readStretch_10 : decode cX0_readStretch 10 = .ok (.iload_n 2, 1) := by decide +kernel
theorem dX0_readStretch_11 : decode cX0_readStretch 11 = .ok (.istore 6, 2) := by decide +kernel
theorem dX0_readStretch_13 : decode cX0_readStretch 13 = .ok (.aload_n 0, 1) := by decide +kernel
theorem dX0_readStretch_14 : decode cX0_readStretch 14 = .ok (.iload_n 3, 1) := by decide +kernel
theorem dX0_readStretch_15 : decode cX0_readStretch 15 = .ok (.putfield 59, 3) := by decide +kernel
theorem dX0_readStretch_18 : decode cX0_readStretch 18 = .ok (.aload_n 0, 1) := by decide +kernel
theorem dX0_readStretch_19 : decode cX0_readStretch 19 = .ok (.iload_n 1, 1) := by decide +kernel
theorem dX0_readStretch_20 : decode cX0_readStretch 20 = .ok (.iload 5, 2) := by decide +kernel
theorem dX0_readStretch_22 : decode cX0_readStretch 22 = .ok (.invokevirtual 95, 3) := by decide +kernel
theorem dX0_readStretch_25 : decode cX0_readStretch 25 = .ok (.ifCond .ne 125, 3) := by decide +kernel
theorem dX0_readStretch_28 : decode cX0_readStretch 28 = .ok (.aload_n 0, 1) := by decide +kernel
theorem dX0_readStretch_29 : decode cX0_readStretch 29 = .ok (.getfield 26, 3) := by decide +kernel
theorem dX0_readStretch_32 : decode cX0_readStretch 32 = .ok (.iload 4, 2) := by decide +kernel
theorem dX0_readStretch_34 : decode cX0_readStretch 34 = .ok (.iload 5, 2) := by decide +kernel
theorem dX0_readStretch_36 : decode cX0_readStretch 36 = .ok (.iadd, 1) := by decide +kernel
theorem dX0_readStretch_37 : decode cX0_readStretch 37 = .ok (.baload, 1) := by decide +kernel
theorem dX0_readStretch_38 : decode cX0_readStretch 38 = .ok (.ifCond .ne 10, 3) := by decide +kernel
theorem dX0_readStretch_41 : decode cX0_readStretch 41 = .ok (.iload 5, 2) := by decide +kernel
theorem dX0_readStretch_43 : decode cX0_readStretch 43 = .ok (.istore 6, 2) := by decide +kernel
theorem dX0_readStretch_45 : decode cX0_readStretch 45 = .ok (.goto 50, 3) := by decide +kernel
theorem dX0_readStretch_48 : decode cX0_readStretch 48 = .ok (.aload_n 0, 1) := by decide +kernel
theorem dX0_readStretch_49 : decode cX0_readStretch 49 = .ok (.getfield 23, 3) := by decide +kernel
theorem dX0_readStretch_52 : decode cX0_readStretch 52 = .ok (.iload 4, 2) := by decide +kernel
theorem dX0_readStretch_54 : decode cX0_readStretch 54 = .ok (.iload 5, 2) := by decide +kernel
theorem dX0_readStretch_56 : decode cX0_readStretch 56 = .ok (.iadd, 1) := by decide +kernel
theorem dX0_readStretch_57 : decode cX0_readStretch 57 = .ok (.baload, 1) := by decide +kernel
theorem dX0_readStretch_58 : decode cX0_readStretch 58 = .ok (.ifCond .ne 37, 3) := by decide +kernel
theorem dX0_readStretch_61 : decode cX0_readStretch 61 = .ok (.aload_n 0, 1) := by decide +kernel
theorem dX0_readStretch_62 : decode cX0_readStretch 62 = .ok (.iload_n 1, 1) := by decide +kernel
theorem dX0_readStretch_63 : decode cX0_readStretch 63 = .ok (.iload 6, 2) := by decide +kernel
theorem dX0_readStretch_65 : decode cX0_readStretch 65 = .ok (.invokevirtual 83, 3) := by decide +kernel
theorem dX0_readStretch_68 : decode cX0_readStretch 68 = .ok (.istore 6, 2) := by decide +kernel
theorem dX0_readStretch_70 : decode cX0_readStretch 70 = .ok (.aload_n 0, 1) := by decide +kernel
theorem dX0_readStretch_71 : decode cX0_readStretch 71 = .ok (.getfield 19, 3) := by decide +kernel
theorem dX0_readStretch_74 : decode cX0_readStretch 74 = .ok (.iload 4, 2) := by decide +kernel
theorem dX0_readStretch_76 : decode cX0_readStretch 76 = .ok (.iload 6, 2) := by decide +kernel
theorem dX0_readStretch_78 : decode cX0_readStretch 78 = .ok (.iadd, 1) := by decide +kernel
theorem dX0_readStretch_79 : decode cX0_readStretch 79 = .ok (.baload, 1) := by decide +kernel
theorem dX0_readStretch_80 : decode cX0_readStretch 80 = .ok (.ifCond .ne 15, 3) := by decide +kernel
theorem dX0_readStretch_83 : decode cX0_readStretch 83 = .ok (.aload_n 0, 1) := by decide +kernel
theorem dX0_readStretch_84 : decode cX0_readStretch 84 = .ok (.iload_n 1, 1) := by decide +kernel
theorem dX0_readStretch_85 : decode cX0_readStretch 85 = .ok (.iload 6, 2) := by decide +kernel
theorem dX0_readStretch_87 : decode cX0_readStretch 87 = .ok (.invokevirtual 83, 3) := by decide +kernel
theorem dX0_readStretch_90 : decode cX0_readStretch 90 = .ok (.istore 6, 2) := by decide +kernel
theorem dX0_readStretch_92 : decode cX0_readStretch 92 = .ok (.goto (-22), 3) := by decide +kernel
theorem dX0_readStretch_95 : decode cX0_readStretch 95 = .ok (.aload_n 0, 1) := by decide +kernel
theorem dX0_readStretch_96 : decode cX0_readStretch 96 = .ok (.getfield 29, 3) := by decide +kernel
theorem dX0_readStretch_99 : decode cX0_readStretch 99 = .ok (.aload_n 0, 1) := by decide +kernel
theorem dX0_readStretch_100 : decode cX0_readStretch 100 = .ok (.getfield 59, 3) := by decide +kernel
theorem dX0_readStretch_103 : decode cX0_readStretch 103 = .ok (.iload 6, 2) := by decide +kernel
theorem dX0_readStretch_105 : decode cX0_readStretch 105 = .ok (.bipush 8, 2) := by decide +kernel
theorem dX0_readStretch_107 : decode cX0_readStretch 107 = .ok (.aload_n 0, 1) := by decide +kernel
theorem dX0_readStretch_108 : decode cX0_readStretch 108 = .ok (.getfield 7, 3) := by decide +kernel
theorem dX0_readStretch_111 : decode cX0_readStretch 111 = .ok (.iload_n 1, 1) := by decide +kernel
theorem dX0_readStretch_112 : decode cX0_readStretch 112 = .ok (.baload, 1) := by decide +kernel
theorem dX0_readStretch_113 : decode cX0_readStretch 113 = .ok (.isub, 1) := by decide +kernel
theorem dX0_readStretch_114 : decode cX0_readStretch 114 = .ok (.ishl, 1) := by decide +kernel
theorem dX0_readStretch_115 : decode cX0_readStretch 115 = .ok (.aload_n 0, 1) := by decide +kernel
theorem dX0_readStretch_116 : decode cX0_readStretch 116 = .ok (.getfield 16, 3) := by decide +kernel
theorem dX0_readStretch_119 : decode cX0_readStretch 119 = .ok (.iload 4, 2) := by decide +kernel
theorem dX0_readStretch_121 : decode cX0_readStretch 121 = .ok (.iload 5, 2) := by decide +kernel
theorem dX0_readStretch_123 : decode cX0_readStretch 123 = .ok (.iadd, 1) := by decide +kernel
theorem dX0_readStretch_124 : decode cX0_readStretch 124 = .ok (.baload, 1) := by decide +kernel
theorem dX0_readStretch_125 : decode cX0_readStretch 125 = .ok (.ior, 1) := by decide +kernel
theorem dX0_readStretch_126 : decode cX0_readStretch 126 = .ok (.i2s, 1) := by decide +kernel
theorem dX0_readStretch_127 : decode cX0_readStretch 127 = .ok (.sastore, 1) := by decide +kernel
theorem dX0_readStretch_128 : decode cX0_readStretch 128 = .ok (.aload_n 0, 1) := by decide +kernel
theorem dX0_readStretch_129 : decode cX0_readStretch 129 = .ok (.dup, 1) := by decide +kernel
theorem dX0_readStretch_130 : decode cX0_readStretch 130 = .ok (.getfield 59, 3) := by decide +kernel
theorem dX0_readStretch_133 : decode cX0_readStretch 133 = .ok (.iconst 1, 1) := by decide +kernel
theorem dX0_readStretch_134 : decode cX0_readStretch 134 = .ok (.iadd, 1) := by decide +kernel
theorem dX0_readStretch_135 : decode cX0_readStretch 135 = .ok (.putfield 59, 3) := by decide +kernel
theorem dX0_readStretch_138 : decode cX0_readStretch 138 = .ok (.aload_n 0, 1) := by decide +kernel
theorem dX0_readStretch_139 : decode cX0_readStretch 139 = .ok (.iload_n 1, 1) := by decide +kernel
theorem dX0_readStretch_140 : decode cX0_readStretch 140 = .ok (.iload 5, 2) := by decide +kernel
theorem dX0_readStretch_142 : decode cX0_readStretch 142 = .ok (.invokevirtual 83, 3) := by decide +kernel
theorem dX0_readStretch_145 : decode cX0_readStretch 145 = .ok (.istore 5, 2) := by decide +kernel
theorem dX0_readStretch_147 : decode cX0_readStretch 147 = .ok (.goto (-129), 3) := by decide +kernel
theorem dX0_readStretch_150 : decode cX0_readStretch 150 = .ok (.iload 5, 2) := by decide +kernel
theorem dX0_readStretch_152 : decode cX0_readStretch 152 = .ok (.ireturn, 1) := by decide +kernel
abbrev cX0_free : ByteArray := prog_1_method_24_code
def yX0_free : MethodName := ⟨RX0, "free", "(II)V"⟩
theorem dX0_free_0 : decode cX0_free 0 = .ok (.aload_n 0, 1) := by decide +kernel
theorem dX0_free_1 : decode cX0_free 1 = .ok (.iload_n 1, 1) := by decide +kernel
theorem dX0_free_2 : decode cX0_free 2 = .ok (.invokevirtual 70, 3) := by decide +kernel
theorem dX0_free_5 : decode cX0_free 5 = .ok (.iload_n 2, 1) := by decide +kernel
theorem dX0_free_6 : decode cX0_free 6 = .ok (.iadd, 1) := by decide +kernel
theorem dX0_free_7 : decode cX0_free 7 = .ok (.istore_n 3, 1) := by decide +kernel
theorem dX0_free_8 : decode cX0_free 8 = .ok (.aload_n 0, 1) := by decide +kernel
theorem dX0_free_9 : decode cX0_free 9 = .ok (.getfield 19, 3) := by decide +kernel
theorem dX0_free_12 : decode cX0_free 12 = .ok (.iload_n 3, 1) := by decide +kernel
theorem dX0_free_13 : decode cX0_free 13 = .ok (.iconst 0, 1) := by decide +kernel
theorem dX0_free_14 : decode cX0_free 14 = .ok (.bastore, 1) := by decide +kernel
theorem dX0_free_15 : decode cX0_free 15 = .ok (.aload_n 0, 1) := by decide +kernel
theorem dX0_free_16 : decode cX0_free 16 = .ok (.getfield 23, 3) := by decide +kernel
theorem dX0_free_19 : decode cX0_free 19 = .ok (.iload_n 3, 1) := by decide +kernel
theorem dX0_free_20 : decode cX0_free 20 = .ok (.iconst 0, 1) := by decide +kernel
theorem dX0_free_21 : decode cX0_free 21 = .ok (.bastore, 1) := by decide +kernel
theorem dX0_free_22 : decode cX0_free 22 = .ok (.aload_n 0, 1) := by decide +kernel
theorem dX0_free_23 : decode cX0_free 23 = .ok (.getfield 26, 3) := by decide +kernel
theorem dX0_free_26 : decode cX0_free 26 = .ok (.iload_n 3, 1) := by decide +kernel
theorem dX0_free_27 : decode cX0_free 27 = .ok (.iconst 0, 1) := by decide +kernel
theorem dX0_free_28 : decode cX0_free 28 = .ok (.bastore, 1) := by decide +kernel
theorem dX0_free_29 : decode cX0_free 29 = .ok (.return_, 1) := by decide +kernel
abbrev cX0_maybe : ByteArray := prog_1_method_4_code
def yX0_maybe : MethodName := ⟨RX0, "maybe", "(II)Z"⟩
theorem dX0_maybe_0 : decode cX0_maybe 0 = .ok (.aload_n 0, 1) := by decide +kernel
theorem dX0_maybe_1 : decode cX0_maybe 1 = .ok (.iload_n 1, 1) := by decide +kernel
theorem dX0_maybe_2 : decode cX0_maybe 2 = .ok (.invokevirtual 33, 3) := by decide +kernel
theorem dX0_maybe_5 : decode cX0_maybe 5 = .ok (.ifCond .ne 5, 3) := by decide +kernel
theorem dX0_maybe_8 : decode cX0_maybe 8 = .ok (.iconst 0, 1) := by decide +kernel
theorem dX0_maybe_9 : decode cX0_maybe 9 = .ok (.ireturn, 1) := by decide +kernel
theorem dX0_maybe_10 : decode cX0_maybe 10 = .ok (.aload_n 0, 1) := by decide +kernel
theorem dX0_maybe_11 : decode cX0_maybe 11 = .ok (.iload_n 2, 1) := by decide +kernel
theorem dX0_maybe_12 : decode cX0_maybe 12 = .ok (.invokevirtual 41, 3) := by decide +kernel
theorem dX0_maybe_15 : decode cX0_maybe 15 = .ok (.istore_n 3, 1) := by decide +kernel
theorem dX0_maybe_16 : decode cX0_maybe 16 = .ok (.aload_n 0, 1) := by decide +kernel
theorem dX0_maybe_17 : decode cX0_maybe 17 = .ok (.iload_n 1, 1) := by decide +kernel
theorem dX0_maybe_18 : decode cX0_maybe 18 = .ok (.iload_n 3, 1) := by decide +kernel
theorem dX0_maybe_19 : decode cX0_maybe 19 = .ok (.invokevirtual 48, 3) := by decide +kernel
theorem dX0_maybe_22 : decode cX0_maybe 22 = .ok (.ifCond .le 7, 3) := by decide +kernel
theorem dX0_maybe_25 : decode cX0_maybe 25 = .ok (.iconst 1, 1) := by decide +kernel
theorem dX0_maybe_26 : decode cX0_maybe 26 = .ok (.goto 4, 3) := by decide +kernel
theorem dX0_maybe_29 : decode cX0_maybe 29 = .ok (.iconst 0, 1) := by decide +kernel
theorem dX0_maybe_30 : decode cX0_maybe 30 = .ok (.ireturn, 1) := by decide +kernel
abbrev cX0_times : ByteArray := prog_1_method_5_code
def yX0_times : MethodName := ⟨RX0, "times", "(II)I"⟩
theorem dX0_times_0 : decode cX0_times 0 = .ok (.aload_n 0, 1) := by decide +kernel
theorem dX0_times_1 : decode cX0_times 1 = .ok (.iload_n 1, 1) := by decide +kernel
theorem dX0_times_2 : decode cX0_times 2 = .ok (.invokevirtual 33, 3) := by decide +kernel
theorem dX0_times_5 : decode cX0_times 5 = .ok (.ifCond .eq 14, 3) := by decide +kernel
theorem dX0_times_8 : decode cX0_times 8 = .ok (.iload_n 2, 1) := by decide +kernel
theorem dX0_times_9 : decode cX0_times 9 = .ok (.ifCond .lt 10, 3) := by decide +kernel
theorem dX0_times_12 : decode cX0_times 12 = .ok (.iload_n 2, 1) := by decide +kernel
theorem dX0_times_13 : decode cX0_times 13 = .ok (.sipush 255, 3) := by decide +kernel
theorem dX0_times_16 : decode cX0_times 16 = .ok (.if_icmp .le 5, 3) := by decide +kernel
theorem dX0_times_19 : decode cX0_times 19 = .ok (.iconst (-1), 1) := by decide +kernel
theorem dX0_times_20 : decode cX0_times 20 = .ok (.ireturn, 1) := by decide +kernel
theorem dX0_times_21 : decode cX0_times 21 = .ok (.aload_n 0, 1) := by decide +kernel
theorem dX0_times_22 : decode cX0_times 22 = .ok (.iload_n 1, 1) := by decide +kernel
theorem dX0_times_23 : decode cX0_times 23 = .ok (.iload_n 2, 1) := by decide +kernel
theorem dX0_times_24 : decode cX0_times 24 = .ok (.invokevirtual 48, 3) := by decide +kernel
theorem dX0_times_27 : decode cX0_times 27 = .ok (.ireturn, 1) := by decide +kernel
abbrev cX0_count : ByteArray := prog_1_method_6_code
def yX0_count : MethodName := ⟨RX0, "count", "(I)I"⟩
theorem dX0_count_0 : decode cX0_count 0 = .ok (.aload_n 0, 1) := by decide +kernel
theorem dX0_count_1 : decode cX0_count 1 = .ok (.iload_n 1, 1) := by decide +kernel
theorem dX0_count_2 : decode cX0_count 2 = .ok (.invokevirtual 33, 3) := by decide +kernel
theorem dX0_count_5 : decode cX0_count 5 = .ok (.ifCond .eq 12, 3) := by decide +kernel
theorem dX0_count_8 : decode cX0_count 8 = .ok (.aload_n 0, 1) := by decide +kernel
theorem dX0_count_9 : decode cX0_count 9 = .ok (.getfield 13, 3) := by decide +kernel
theorem dX0_count_12 : decode cX0_count 12 = .ok (.iload_n 1, 1) := by decide +kernel
theorem dX0_count_13 : decode cX0_count 13 = .ok (.baload, 1) := by decide +kernel
theorem dX0_count_14 : decode cX0_count 14 = .ok (.goto 4, 3) := by decide +kernel
theorem dX0_count_17 : decode cX0_count 17 = .ok (.iconst (-1), 1) := by decide +kernel
theorem dX0_count_18 : decode cX0_count 18 = .ok (.ireturn, 1) := by decide +kernel
end
section
set_option maxRecDepth 100000
abbrev cX0_size : ByteArray := prog_1_method_7_code
def yX0_size : MethodName := ⟨RX0, "size", "(I)I"⟩
theorem dX0_size_0 : decode cX0_size 0 = .ok (.aload_n 0, 1) := by decide +kernel
theorem dX0_size_1 : decode cX0_size 1 = .ok (.iload_n 1, 1) := by decide +kernel
theorem dX0_size_2 : decode cX0_size 2 = .ok (.invokevirtual 33, 3) := by decide +kernel
theorem dX0_size_5 : decode cX0_size 5 = .ok (.ifCond .eq 11, 3) := by decide +kernel
theorem dX0_size_8 : decode cX0_size 8 = .ok (.aload_n 0, 1) := by decide +kernel
theorem dX0_size_9 : decode cX0_size 9 = .ok (.iload_n 1, 1) := by decide +kernel
theorem dX0_size_10 : decode cX0_size 10 = .ok (.invokevirtual 37, 3) := by decide +kernel
theorem dX0_size_13 : decode cX0_size 13 = .ok (.goto 4, 3) := by decide +kernel
theorem dX0_size_16 : decode cX0_size 16 = .ok (.iconst (-1), 1) := by decide +kernel
theorem dX0_size_17 : decode cX0_size 17 = .ok (.ireturn, 1) := by decide +kernel
abbrev cX0_print : ByteArray := prog_1_method_8_code
def yX0_print : MethodName := ⟨RX0, "print", "(II)I"⟩
theorem dX0_print_0 : decode cX0_print 0 = .ok (.aload_n 0, 1) := by decide +kernel
theorem dX0_print_1 : decode cX0_print 1 = .ok (.iload_n 1, 1) := by decide +kernel
theorem dX0_print_2 : decode cX0_print 2 = .ok (.invokevirtual 33, 3) := by decide +kernel
theorem dX0_print_5 : decode cX0_print 5 = .ok (.ifCond .ne 5, 3) := by decide +kernel
theorem dX0_print_8 : decode cX0_print 8 = .ok (.iconst (-1), 1) := by decide +kernel
theorem dX0_print_9 : decode cX0_print 9 = .ok (.ireturn, 1) := by decide +kernel
theorem dX0_print_10 : decode cX0_print 10 = .ok (.iload_n 2, 1) := by decide +kernel
theorem dX0_print_11 : decode cX0_print 11 = .ok (.ifCond .lt 13, 3) := by decide +kernel
theorem dX0_print_14 : decode cX0_print 14 = .ok (.iload_n 2, 1) := by decide +kernel
theorem dX0_print_15 : decode cX0_print 15 = .ok (.aload_n 0, 1) := by decide +kernel
theorem dX0_print_16 : decode cX0_print 16 = .ok (.getfield 13, 3) := by decide +kernel
theorem dX0_print_19 : decode cX0_print 19 = .ok (.iload_n 1, 1) := by decide +kernel
theorem dX0_print_20 : decode cX0_print 20 = .ok (.baload, 1) := by decide +kernel
theorem dX0_print_21 : decode cX0_print 21 = .ok (.if_icmp .lt 6, 3) := by decide +kernel
theorem dX0_print_24 : decode cX0_print 24 = .ok (.bipush (-3), 2) := by decide +kernel
theorem dX0_print_26 : decode cX0_print 26 = .ok (.ireturn, 1) := by decide +kernel
theorem dX0_print_27 : decode cX0_print 27 = .ok (.aload_n 0, 1) := by decide +kernel
theorem dX0_print_28 : decode cX0_print 28 = .ok (.iload_n 1, 1) := by decide +kernel
theorem dX0_print_29 : decode cX0_print 29 = .ok (.invokevirtual 55, 3) := by decide +kernel
theorem dX0_print_32 : decode cX0_print 32 = .ok (.iconst 0, 1) := by decide +kernel
theorem dX0_print_33 : decode cX0_print 33 = .ok (.istore_n 3, 1) := by decide +kernel
theorem dX0_print_34 : decode cX0_print 34 = .ok (.iload_n 3, 1) := by decide +kernel
theorem dX0_print_35 : decode cX0_print 35 = .ok (.aload_n 0, 1) := by decide +kernel
theorem dX0_print_36 : decode cX0_print 36 = .ok (.getfield 59, 3) := by decide +kernel
theorem dX0_print_39 : decode cX0_print 39 = .ok (.if_icmp .ge 93, 3) := by decide +kernel
theorem dX0_print_42 : decode cX0_print 42 = .ok (.iconst 0, 1) := by decide +kernel
theorem dX0_print_43 : decode cX0_print 43 = .ok (.istore 4, 2) := by decide +kernel
theorem dX0_print_45 : decode cX0_print 45 = .ok (.iconst 0, 1) := by decide +kernel
theorem dX0_print_46 : decode cX0_print 46 = .ok (.istore 5, 2) := by decide +kernel
theorem dX0_print_48 : decode cX0_print 48 = .ok (.iconst 0, 1) := by decide +kernel
theorem dX0_print_49 : decode cX0_print 49 = .ok (.istore 6, 2) := by decide +kernel
theorem dX0_print_51 : decode cX0_print 51 = .ok (.iload 6, 2) := by decide +kernel
theorem dX0_print_53 : decode cX0_print 53 = .ok (.aload_n 0, 1) := by decide +kernel
theorem dX0_print_54 : decode cX0_print 54 = .ok (.getfield 59, 3) := by decide +kernel
theorem dX0_print_57 : decode cX0_print 57 = .ok (.if_icmp .ge 47, 3) := by decide +kernel
theorem dX0_print_60 : decode cX0_print 60 = .ok (.aload_n 0, 1) := by decide +kernel
theorem dX0_print_61 : decode cX0_print 61 = .ok (.getfield 29, 3) := by decide +kernel
theorem dX0_print_64 : decode cX0_print 64 = .ok (.iload 6, 2) := by decide +kernel
theorem dX0_print_66 : decode cX0_print 66 = .ok (.saload, 1) := by decide +kernel
theorem dX0_print_67 : decode cX0_print 67 = .ok (.aload_n 0, 1) := by decide +kernel
theorem dX0_print_68 : decode cX0_print 68 = .ok (.getfield 29, 3) := by decide +kernel
theorem dX0_print_71 : decode cX0_print 71 = .ok (.iload_n 3, 1) := by decide +kernel
theorem dX0_print_72 : decode cX0_print 72 = .ok (.saload, 1) := by decide +kernel
theorem dX0_print_73 : decode cX0_print 73 = .ok (.if_icmp .ge 6, 3) := by decide +kernel
theorem dX0_print_76 : decode cX0_print 76 = .ok (.iinc 4 1, 3) := by decide +kernel
theorem dX0_print_79 : decode cX0_print 79 = .ok (.aload_n 0, 1) := by decide +kernel
theorem dX0_print_80 : decode cX0_print 80 = .ok (.getfield 29, 3) := by decide +kernel
theorem dX0_print_83 : decode cX0_print 83 = .ok (.iload 6, 2) := by decide +kernel
theorem dX0_print_85 : decode cX0_print 85 = .ok (.saload, 1) := by decide +kernel
theorem dX0_print_86 : decode cX0_print 86 = .ok (.aload_n 0, 1) := by decide +kernel
theorem dX0_print_87 : decode cX0_print 87 = .ok (.getfield 29, 3) := by decide +kernel
theorem dX0_print_90 : decode cX0_print 90 = .ok (.iload_n 3, 1) := by decide +kernel
theorem dX0_print_91 : decode cX0_print 91 = .ok (.saload, 1) := by decide +kernel
theorem dX0_print_92 : decode cX0_print 92 = .ok (.if_icmp .ne 6, 3) := by decide +kernel
theorem dX0_print_95 : decode cX0_print 95 = .ok (.iinc 5 1, 3) := by decide +kernel
theorem dX0_print_98 : decode cX0_print 98 = .ok (.iinc 6 1, 3) := by decide +kernel
theorem dX0_print_101 : decode cX0_print 101 = .ok (.goto (-50), 3) := by decide +kernel
theorem dX0_print_104 : decode cX0_print 104 = .ok (.iload 4, 2) := by decide +kernel
theorem dX0_print_106 : decode cX0_print 106 = .ok (.iload_n 2, 1) := by decide +kernel
theorem dX0_print_107 : decode cX0_print 107 = .ok (.if_icmp .gt 19, 3) := by decide +kernel
theorem dX0_print_110 : decode cX0_print 110 = .ok (.iload_n 2, 1) := by decide +kernel
theorem dX0_print_111 : decode cX0_print 111 = .ok (.iload 4, 2) := by decide +kernel
theorem dX0_print_113 : decode cX0_print 113 = .ok (.iload 5, 2) := by decide +kernel
theorem dX0_print_115 : decode cX0_print 115 = .ok (.iadd, 1) := by decide +kernel
theorem dX0_print_116 : decode cX0_print 116 = .ok (.if_icmp .ge 10, 3) := by decide +kernel
theorem dX0_print_119 : decode cX0_print 119 = .ok (.aload_n 0, 1) := by decide +kernel
theorem dX0_print_120 : decode cX0_print 120 = .ok (.getfield 29, 3) := by decide +kernel
theorem dX0_print_123 : decode cX0_print 123 = .ok (.iload_n 3, 1) := by decide +kernel
theorem dX0_print_124 : decode cX0_print 124 = .ok (.saload, 1) := by decide +kernel
theorem dX0_print_125 : decode cX0_print 125 = .ok (.ireturn, 1) := by decide +kernel
theorem dX0_print_126 : decode cX0_print 126 = .ok (.iinc 3 1, 3) := by decide +kernel
theorem dX0_print_129 : decode cX0_print 129 = .ok (.goto (-95), 3) := by decide +kernel
theorem dX0_print_132 : decode cX0_print 132 = .ok (.bipush (-3), 2) := by decide +kernel
theorem dX0_print_134 : decode cX0_print 134 = .ok (.ireturn, 1) := by decide +kernel
abbrev cX0_readAll : ByteArray := prog_1_method_31_code
def yX0_readAll : MethodName := ⟨RX0, "readAll", "(I)V"⟩
theorem dX0_readAll_0 : decode cX0_readAll 0 = .ok (.aload_n 0, 1) := by decide +kernel
theorem dX0_readAll_1 : decode cX0_readAll 1 = .ok (.iconst 0, 1) := by decide +kernel
theorem dX0_readAll_2 : decode cX0_readAll 2 = .ok (.putfield 59, 3) := by decide +kernel
theorem dX0_readAll_5 : decode cX0_readAll 5 = .ok (.iconst 0, 1) := by decide +kernel
theorem dX0_readAll_6 : decode cX0_readAll 6 = .ok (.istore_n 2, 1) := by decide +kernel
theorem dX0_readAll_7 : decode cX0_readAll 7 = .ok (.aload_n 0, 1) := by decide +kernel
theorem dX0_readAll_8 : decode cX0_readAll 8 = .ok (.iload_n 1, 1) := by decide +kernel
theorem dX0_readAll_9 : decode cX0_readAll 9 = .ok (.iload_n 2, 1) := by decide +kernel
theorem dX0_readAll_10 : decode cX0_readAll 10 = .ok (.invokevirtual 95, 3) := by decide +kernel
theorem dX0_readAll_13 : decode cX0_readAll 13 = .ok (.ifCond .ne 9, 3) := by decide +kernel
theorem dX0_readAll_16 : decode cX0_readAll 16 = .ok (.iinc 2 1, 3) := by decide +kernel
theorem dX0_readAll_19 : decode cX0_readAll 19 = .ok (.goto (-12), 3) := by decide +kernel
theorem dX0_readAll_22 : decode cX0_readAll 22 = .ok (.aload_n 0, 1) := by decide +kernel
theorem dX0_readAll_23 : decode cX0_readAll 23 = .ok (.iload_n 1, 1) := by decide +kernel
theorem dX0_readAll_24 : decode cX0_readAll 24 = .ok (.iload_n 2, 1) := by decide +kernel
theorem dX0_readAll_25 : decode cX0_readAll 25 = .ok (.invokevirtual 83, 3) := by decide +kernel
theorem dX0_readAll_28 : decode cX0_readAll 28 = .ok (.istore_n 3, 1) := by decide +kernel
theorem dX0_readAll_29 : decode cX0_readAll 29 = .ok (.iload_n 3, 1) := by decide +kernel
theorem dX0_readAll_30 : decode cX0_readAll 30 = .ok (.iload_n 2, 1) := by decide +kernel
theorem dX0_readAll_31 : decode cX0_readAll 31 = .ok (.if_icmp .eq 36, 3) := by decide +kernel
theorem dX0_readAll_34 : decode cX0_readAll 34 = .ok (.aload_n 0, 1) := by decide +kernel
theorem dX0_readAll_35 : decode cX0_readAll 35 = .ok (.iload_n 1, 1) := by decide +kernel
theorem dX0_readAll_36 : decode cX0_readAll 36 = .ok (.iload_n 3, 1) := by decide +kernel
theorem dX0_readAll_37 : decode cX0_readAll 37 = .ok (.invokevirtual 95, 3) := by decide +kernel
theorem dX0_readAll_40 : decode cX0_readAll 40 = .ok (.ifCond .eq 13, 3) := by decide +kernel
theorem dX0_readAll_43 : decode cX0_readAll 43 = .ok (.aload_n 0, 1) := by decide +kernel
theorem dX0_readAll_44 : decode cX0_readAll 44 = .ok (.iload_n 1, 1) := by decide +kernel
theorem dX0_readAll_45 : decode cX0_readAll 45 = .ok (.iload_n 3, 1) := by decide +kernel
theorem dX0_readAll_46 : decode cX0_readAll 46 = .ok (.invokevirtual 83, 3) := by decide +kernel
theorem dX0_readAll_49 : decode cX0_readAll 49 = .ok (.istore_n 3, 1) := by decide +kernel
theorem dX0_readAll_50 : decode cX0_readAll 50 = .ok (.goto (-21), 3) := by decide +kernel
theorem dX0_readAll_53 : decode cX0_readAll 53 = .ok (.aload_n 0, 1) := by decide +kernel
theorem dX0_readAll_54 : decode cX0_readAll 54 = .ok (.iload_n 1, 1) := by decide +kernel
theorem dX0_readAll_55 : decode cX0_readAll 55 = .ok (.iload_n 3, 1) := by decide +kernel
theorem dX0_readAll_56 : decode cX0_readAll 56 = .ok (.aload_n 0, 1) := by decide +kernel
theorem dX0_readAll_57 : decode cX0_readAll 57 = .ok (.getfield 59, 3) := by decide +kernel
theorem dX0_readAll_60 : decode cX0_readAll 60 = .ok (.invokevirtual 102, 3) := by decide +kernel
theorem dX0_readAll_63 : decode cX0_readAll 63 = .ok (.istore_n 3, 1) := by decide +kernel
theorem dX0_readAll_64 : decode cX0_readAll 64 = .ok (.goto (-35), 3) := by decide +kernel
theorem dX0_readAll_67 : decode cX0_readAll 67 = .ok (.return_, 1) := by decide +kernel
abbrev cX0_grow : ByteArray := prog_1_method_9_code
def yX0_grow : MethodName := ⟨RX0, "grow", "(I)I"⟩
theorem dX0_grow_0 : decode cX0_grow 0 = .ok (.aload_n 0, 1) := by decide +kernel
theorem dX0_grow_1 : decode cX0_grow 1 = .ok (.iload_n 1, 1) := by decide +kernel
theorem dX0_grow_2 : decode cX0_grow 2 = .ok (.invokevirtual 33, 3) := by decide +kernel
theorem dX0_grow_5 : decode cX0_grow 5 = .ok (.ifCond .ne 5, 3) := by decide +kernel
theorem dX0_grow_8 : decode cX0_grow 8 = .ok (.iconst (-1), 1) := by decide +kernel
theorem dX0_grow_9 : decode cX0_grow 9 = .ok (.ireturn, 1) := by decide +kernel
theorem dX0_grow_10 : decode cX0_grow 10 = .ok (.aload_n 0, 1) := by decide +kernel
theorem dX0_grow_11 : decode cX0_grow 11 = .ok (.getfield 7, 3) := by decide +kernel
theorem dX0_grow_14 : decode cX0_grow 14 = .ok (.iload_n 1, 1) := by decide +kernel
theorem dX0_grow_15 : decode cX0_grow 15 = .ok (.baload, 1) := by decide +kernel
theorem dX0_grow_16 : decode cX0_grow 16 = .ok (.bipush 6, 2) := by decide +kernel
theorem dX0_grow_18 : decode cX0_grow 18 = .ok (.if_icmp .ne 6, 3) := by decide +kernel
theorem dX0_grow_21 : decode cX0_grow 21 = .ok (.bipush (-2), 2) := by decide +kernel
theorem dX0_grow_23 : decode cX0_grow 23 = .ok (.ireturn, 1) := by decide +kernel
theorem dX0_grow_24 : decode cX0_grow 24 = .ok (.aload_n 0, 1) := by decide +kernel
theorem dX0_grow_25 : decode cX0_grow 25 = .ok (.iload_n 1, 1) := by decide +kernel
theorem dX0_grow_26 : decode cX0_grow 26 = .ok (.aload_n 0, 1) := by decide +kernel
theorem dX0_grow_27 : decode cX0_grow 27 = .ok (.getfield 7, 3) := by decide +kernel
theorem dX0_grow_30 : decode cX0_grow 30 = .ok (.iload_n 1, 1) := by decide +kernel
theorem dX0_grow_31 : decode cX0_grow 31 = .ok (.baload, 1) := by decide +kernel
theorem dX0_grow_32 : decode cX0_grow 32 = .ok (.iconst 1, 1) := by decide +kernel
theorem dX0_grow_33 : decode cX0_grow 33 = .ok (.iadd, 1) := by decide +kernel
theorem dX0_grow_34 : decode cX0_grow 34 = .ok (.invokevirtual 63, 3) := by decide +kernel
theorem dX0_grow_37 : decode cX0_grow 37 = .ok (.aload_n 0, 1) := by decide +kernel
theorem dX0_grow_38 : decode cX0_grow 38 = .ok (.iload_n 1, 1) := by decide +kernel
theorem dX0_grow_39 : decode cX0_grow 39 = .ok (.invokevirtual 37, 3) := by decide +kernel
theorem dX0_grow_42 : decode cX0_grow 42 = .ok (.ireturn, 1) := by decide +kernel
abbrev cX0_resize : ByteArray := prog_1_method_32_code
def yX0_resize : MethodName := ⟨RX0, "resize", "(II)V"⟩
theorem dX0_resize_0 : decode cX0_resize 0 = .ok (.aload_n 0, 1) := by decide +kernel
theorem dX0_resize_1 : decode cX0_resize 1 = .ok (.iload_n 1, 1) := by decide +kernel
theorem dX0_resize_2 : decode cX0_resize 2 = .ok (.invokevirtual 55, 3) := by decide +kernel
theorem dX0_resize_5 : decode cX0_resize 5 = .ok (.aload_n 0, 1) := by decide +kernel
theorem dX0_resize_6 : decode cX0_resize 6 = .ok (.iload_n 1, 1) := by decide +kernel
theorem dX0_resize_7 : decode cX0_resize 7 = .ok (.invokevirtual 66, 3) := by decide +kernel
theorem dX0_resize_10 : decode cX0_resize 10 = .ok (.aload_n 0, 1) := by decide +kernel
theorem dX0_resize_11 : decode cX0_resize 11 = .ok (.getfield 7, 3) := by decide +kernel
theorem dX0_resize_14 : decode cX0_resize 14 = .ok (.iload_n 1, 1) := by decide +kernel
theorem dX0_resize_15 : decode cX0_resize 15 = .ok (.iload_n 2, 1) := by decide +kernel
theorem dX0_resize_16 : decode cX0_resize 16 = .ok (.i2b, 1) := by decide +kernel
theorem dX0_resize_17 : decode cX0_resize 17 = .ok (.bastore, 1) := by decide +kernel
theorem dX0_resize_18 : decode cX0_resize 18 = .ok (.iconst 0, 1) := by decide +kernel
theorem dX0_resize_19 : decode cX0_resize 19 = .ok (.istore_n 3, 1) := by decide +kernel
theorem dX0_resize_20 : decode cX0_resize 20 = .ok (.iload_n 3, 1) := by decide +kernel
theorem dX0_resize_21 : decode cX0_resize 21 = .ok (.aload_n 0, 1) := by decide +kernel
theorem dX0_resize_22 : decode cX0_resize 22 = .ok (.getfield 59, 3) := by decide +kernel
theorem dX0_resize_25 : decode cX0_resize 25 = .ok (.if_icmp .ge 20, 3) := by decide +kernel
theorem dX0_resize_28 : decode cX0_resize 28 = .ok (.aload_n 0, 1) := by decide +kernel
theorem dX0_resize_29 : decode cX0_resize 29 = .ok (.iload_n 1, 1) := by decide +kernel
theorem dX0_resize_30 : decode cX0_resize 30 = .ok (.aload_n 0, 1) := by decide +kernel
theorem dX0_resize_31 : decode cX0_resize 31 = .ok (.getfield 29, 3) := by decide +kernel
theorem dX0_resize_34 : decode cX0_resize 34 = .ok (.iload_n 3, 1) := by decide +kernel
theorem dX0_resize_35 : decode cX0_resize 35 = .ok (.saload, 1) := by decide +kernel
theorem dX0_resize_36 : decode cX0_resize 36 = .ok (.invokevirtual 44, 3) := by decide +kernel
theorem dX0_resize_39 : decode cX0_resize 39 = .ok (.iinc 3 1, 3) := by decide +kernel
theorem dX0_resize_42 : decode cX0_resize 42 = .ok (.goto (-22), 3) := by decide +kernel
theorem dX0_resize_45 : decode cX0_resize 45 = .ok (.return_, 1) := by decide +kernel
abbrev cX0_empty : ByteArray := prog_1_method_23_code
def yX0_empty : MethodName := ⟨RX0, "empty", "(I)V"⟩
theorem dX0_empty_0 : decode cX0_empty 0 = .ok (.aload_n 0, 1) := by decide +kernel
theorem dX0_empty_1 : decode cX0_empty 1 = .ok (.getfield 13, 3) := by decide +kernel
theorem dX0_empty_4 : decode cX0_empty 4 = .ok (.iload_n 1, 1) := by decide +kernel
theorem dX0_empty_5 : decode cX0_empty 5 = .ok (.iconst 0, 1) := by decide +kernel
theorem dX0_empty_6 : decode cX0_empty 6 = .ok (.bastore, 1) := by decide +kernel
theorem dX0_empty_7 : decode cX0_empty 7 = .ok (.iconst 0, 1) := by decide +kernel
theorem dX0_empty_8 : decode cX0_empty 8 = .ok (.istore_n 2, 1) := by decide +kernel
theorem dX0_empty_9 : decode cX0_empty 9 = .ok (.iload_n 2, 1) := by decide +kernel
theorem dX0_empty_10 : decode cX0_empty 10 = .ok (.bipush 64, 2) := by decide +kernel
theorem dX0_empty_12 : decode cX0_empty 12 = .ok (.if_icmp .ge 15, 3) := by decide +kernel
theorem dX0_empty_15 : decode cX0_empty 15 = .ok (.aload_n 0, 1) := by decide +kernel
theorem dX0_empty_16 : decode cX0_empty 16 = .ok (.iload_n 1, 1) := by decide +kernel
theorem dX0_empty_17 : decode cX0_empty 17 = .ok (.iload_n 2, 1) := by decide +kernel
theorem dX0_empty_18 : decode cX0_empty 18 = .ok (.invokevirtual 77, 3) := by decide +kernel
theorem dX0_empty_21 : decode cX0_empty 21 = .ok (.iinc 2 1, 3) := by decide +kernel
theorem dX0_empty_24 : decode cX0_empty 24 = .ok (.goto (-15), 3) := by decide +kernel
theorem dX0_empty_27 : decode cX0_empty 27 = .ok (.return_, 1) := by decide +kernel
abbrev cX0_shrink : ByteArray := prog_1_method_10_code
def yX0_shrink : MethodName := ⟨RX0, "shrink", "(I)I"⟩
theorem dX0_shrink_0 : decode cX0_shrink 0 = .ok (.aload_n 0, 1) := by decide +kernel
theorem dX0_shrink_1 : decode cX0_shrink 1 = .ok (.iload_n 1, 1) := by decide +kernel
theorem dX0_shrink_2 : decode cX0_shrink 2 = .ok (.invokevirtual 33, 3) := by decide +kernel
theorem dX0_shrink_5 : decode cX0_shrink 5 = .ok (.ifCond .ne 5, 3) := by decide +kernel
theorem dX0_shrink_8 : decode cX0_shrink 8 = .ok (.iconst (-1), 1) := by decide +kernel
theorem dX0_shrink_9 : decode cX0_shrink 9 = .ok (.ireturn, 1) := by decide +kernel
theorem dX0_shrink_10 : decode cX0_shrink 10 = .ok (.aload_n 0, 1) := by decide +kernel
theorem dX0_shrink_11 : decode cX0_shrink 11 = .ok (.getfield 7, 3) := by decide +kernel
theorem dX0_shrink_14 : decode cX0_shrink 14 = .ok (.iload_n 1, 1) := by decide +kernel
theorem dX0_shrink_15 : decode cX0_shrink 15 = .ok (.baload, 1) := by decide +kernel
theorem dX0_shrink_16 : decode cX0_shrink 16 = .ok (.iconst 3, 1) := by decide +kernel
theorem dX0_shrink_17 : decode cX0_shrink 17 = .ok (.if_icmp .eq 21, 3) := by decide +kernel
theorem dX0_shrink_20 : decode cX0_shrink 20 = .ok (.aload_n 0, 1) := by decide +kernel
theorem dX0_shrink_21 : decode cX0_shrink 21 = .ok (.getfield 13, 3) := by decide +kernel
theorem dX0_shrink_24 : decode cX0_shrink 24 = .ok (.iload_n 1, 1) := by decide +kernel
theorem dX0_shrink_25 : decode cX0_shrink 25 = .ok (.baload, 1) := by decide +kernel
theorem dX0_shrink_26 : decode cX0_shrink 26 = .ok (.aload_n 0, 1) := by decide +kernel
theorem dX0_shrink_27 : decode cX0_shrink 27 = .ok (.iload_n 1, 1) := by decide +kernel
theorem dX0_shrink_28 : decode cX0_shrink 28 = .ok (.invokevirtual 37, 3) := by decide +kernel
theorem dX0_shrink_31 : decode cX0_shrink 31 = .ok (.iconst 2, 1) := by decide +kernel
theorem dX0_shrink_32 : decode cX0_shrink 32 = .ok (.idiv, 1) := by decide +kernel
theorem dX0_shrink_33 : decode cX0_shrink 33 = .ok (.iconst 1, 1) := by decide +kernel
theorem dX0_shrink_34 : decode cX0_shrink 34 = .ok (.isub, 1) := by decide +kernel
theorem dX0_shrink_35 : decode cX0_shrink 35 = .ok (.if_icmp .le 6, 3) := by decide +kernel
theorem dX0_shrink_38 : decode cX0_shrink 38 = .ok (.bipush (-3), 2) := by decide +kernel
theorem dX0_shrink_40 : decode cX0_shrink 40 = .ok (.ireturn, 1) := by decide +kernel
theorem dX0_shrink_41 : decode cX0_shrink 41 = .ok (.aload_n 0, 1) := by decide +kernel
theorem dX0_shrink_42 : decode cX0_shrink 42 = .ok (.iload_n 1, 1) := by decide +kernel
theorem dX0_shrink_43 : decode cX0_shrink 43 = .ok (.aload_n 0, 1) := by decide +kernel
theorem dX0_shrink_44 : decode cX0_shrink 44 = .ok (.getfield 7, 3) := by decide +kernel
theorem dX0_shrink_47 : decode cX0_shrink 47 = .ok (.iload_n 1, 1) := by decide +kernel
theorem dX0_shrink_48 : decode cX0_shrink 48 = .ok (.baload, 1) := by decide +kernel
theorem dX0_shrink_49 : decode cX0_shrink 49 = .ok (.iconst 1, 1) := by decide +kernel
theorem dX0_shrink_50 : decode cX0_shrink 50 = .ok (.isub, 1) := by decide +kernel
theorem dX0_shrink_51 : decode cX0_shrink 51 = .ok (.invokevirtual 63, 3) := by decide +kernel
theorem dX0_shrink_54 : decode cX0_shrink 54 = .ok (.aload_n 0, 1) := by decide +kernel
theorem dX0_shrink_55 : decode cX0_shrink 55 = .ok (.iload_n 1, 1) := by decide +kernel
theorem dX0_shrink_56 : decode cX0_shrink 56 = .ok (.invokevirtual 37, 3) := by decide +kernel
theorem dX0_shrink_59 : decode cX0_shrink 59 = .ok (.ireturn, 1) := by decide +kernel
abbrev cX0_pour : ByteArray := prog_1_method_11_code
def yX0_pour : MethodName := ⟨RX0, "pour", "(I)I"⟩
theorem dX0_pour_0 : decode cX0_pour 0 = .ok (.aload_n 0, 1) := by decide +kernel
theorem dX0_pour_1 : decode cX0_pour 1 = .ok (.iload_n 1, 1) := by decide +kernel
theorem dX0_pour_2 : decode cX0_pour 2 = .ok (.invokevirtual 33, 3) := by decide +kernel
theorem dX0_pour_5 : decode cX0_pour 5 = .ok (.ifCond .ne 5, 3) := by decide +kernel
theorem dX0_pour_8 : decode cX0_pour 8 = .ok (.iconst (-1), 1) := by decide +kernel
theorem dX0_pour_9 : decode cX0_pour 9 = .ok (.ireturn, 1) := by decide +kernel
theorem dX0_pour_10 : decode cX0_pour 10 = .ok (.aload_n 0, 1) := by decide +kernel
theorem dX0_pour_11 : decode cX0_pour 11 = .ok (.getfield 13, 3) := by decide +kernel
theorem dX0_pour_14 : decode cX0_pour 14 = .ok (.iconst 0, 1) := by decide +kernel
theorem dX0_pour_15 : decode cX0_pour 15 = .ok (.baload, 1) := by decide +kernel
theorem dX0_pour_16 : decode cX0_pour 16 = .ok (.aload_n 0, 1) := by decide +kernel
theorem dX0_pour_17 : decode cX0_pour 17 = .ok (.getfield 13, 3) := by decide +kernel
theorem dX0_pour_20 : decode cX0_pour 20 = .ok (.iconst 1, 1) := by decide +kernel
theorem dX0_pour_21 : decode cX0_pour 21 = .ok (.baload, 1) := by decide +kernel
theorem dX0_pour_22 : decode cX0_pour 22 = .ok (.iadd, 1) := by decide +kernel
theorem dX0_pour_23 : decode cX0_pour 23 = .ok (.istore_n 2, 1) := by decide +kernel
theorem dX0_pour_24 : decode cX0_pour 24 = .ok (.iload_n 2, 1) := by decide +kernel
theorem dX0_pour_25 : decode cX0_pour 25 = .ok (.bipush 63, 2) := by decide +kernel
theorem dX0_pour_27 : decode cX0_pour 27 = .ok (.if_icmp .le 6, 3) := by decide +kernel
theorem dX0_pour_30 : decode cX0_pour 30 = .ok (.bipush (-2), 2) := by decide +kernel
theorem dX0_pour_32 : decode cX0_pour 32 = .ok (.ireturn, 1) := by decide +kernel
theorem dX0_pour_33 : decode cX0_pour 33 = .ok (.aload_n 0, 1) := by decide +kernel
theorem dX0_pour_34 : decode cX0_pour 34 = .ok (.getfield 7, 3) := by decide +kernel
theorem dX0_pour_37 : decode cX0_pour 37 = .ok (.iload_n 1, 1) := by decide +kernel
theorem dX0_pour_38 : decode cX0_pour 38 = .ok (.baload, 1) := by decide +kernel
theorem dX0_pour_39 : decode cX0_pour 39 = .ok (.istore_n 3, 1) := by decide +kernel
theorem dX0_pour_40 : decode cX0_pour 40 = .ok (.iload_n 2, 1) := by decide +kernel
theorem dX0_pour_41 : decode cX0_pour 41 = .ok (.iconst 1, 1) := by decide +kernel
theorem dX0_pour_42 : decode cX0_pour 42 = .ok (.iload_n 3, 1) := by decide +kernel
theorem dX0_pour_43 : decode cX0_pour 43 = .ok (.ishl, 1) := by decide +kernel
theorem dX0_pour_44 : decode cX0_pour 44 = .ok (.iconst 1, 1) := by decide +kernel
theorem dX0_pour_45 : decode cX0_pour 45 = .ok (.isub, 1) := by decide +kernel
theorem dX0_pour_46 : decode cX0_pour 46 = .ok (.if_icmp .le 9, 3) := by decide +kernel
theorem dX0_pour_49 : decode cX0_pour 49 = .ok (.iinc 3 1, 3) := by decide +kernel
theorem dX0_pour_52 : decode cX0_pour 52 = .ok (.goto (-12), 3) := by decide +kernel
theorem dX0_pour_55 : decode cX0_pour 55 = .ok (.iload_n 3, 1) := by decide +kernel
theorem dX0_pour_56 : decode cX0_pour 56 = .ok (.aload_n 0, 1) := by decide +kernel
theorem dX0_pour_57 : decode cX0_pour 57 = .ok (.getfield 7, 3) := by decide +kernel
theorem dX0_pour_60 : decode cX0_pour 60 = .ok (.iload_n 1, 1) := by decide +kernel
theorem dX0_pour_61 : decode cX0_pour 61 = .ok (.baload, 1) := by decide +kernel
theorem dX0_pour_62 : decode cX0_pour 62 = .ok (.if_icmp .le 9, 3) := by decide +kernel
theorem dX0_pour_65 : decode cX0_pour 65 = .ok (.aload_n 0, 1) := by decide +kernel
theorem dX0_pour_66 : decode cX0_pour 66 = .ok (.iload_n 1, 1) := by decide +kernel
theorem dX0_pour_67 : decode cX0_pour 67 = .ok (.iload_n 3, 1) := by decide +kernel
theorem dX0_pour_68 : decode cX0_pour 68 = .ok (.invokevirtual 63, 3) := by decide +kernel
theorem dX0_pour_71 : decode cX0_pour 71 = .ok (.aload_n 0, 1) := by decide +kernel
theorem dX0_pour_72 : decode cX0_pour 72 = .ok (.iconst 1, 1) := by decide +kernel
theorem dX0_pour_73 : decode cX0_pour 73 = .ok (.iload_n 1, 1) := by decide +kernel
theorem dX0_pour_74 : decode cX0_pour 74 = .ok (.isub, 1) := by decide +kernel
theorem dX0_pour_75 : decode cX0_pour 75 = .ok (.invokevirtual 55, 3) := by decide +kernel
theorem dX0_pour_78 : decode cX0_pour 78 = .ok (.iconst 0, 1) := by decide +kernel
theorem dX0_pour_79 : decode cX0_pour 79 = .ok (.istore 4, 2) := by decide +kernel
theorem dX0_pour_81 : decode cX0_pour 81 = .ok (.iload 4, 2) := by decide +kernel
theorem dX0_pour_83 : decode cX0_pour 83 = .ok (.aload_n 0, 1) := by decide +kernel
theorem dX0_pour_84 : decode cX0_pour 84 = .ok (.getfield 59, 3) := by decide +kernel
theorem dX0_pour_87 : decode cX0_pour 87 = .ok (.if_icmp .ge 21, 3) := by decide +kernel
theorem dX0_pour_90 : decode cX0_pour 90 = .ok (.aload_n 0, 1) := by decide +kernel
theorem dX0_pour_91 : decode cX0_pour 91 = .ok (.iload_n 1, 1) := by decide +kernel
theorem dX0_pour_92 : decode cX0_pour 92 = .ok (.aload_n 0, 1) := by decide +kernel
theorem dX0_pour_93 : decode cX0_pour 93 = .ok (.getfield 29, 3) := by decide +kernel
theorem dX0_pour_96 : decode cX0_pour 96 = .ok (.iload 4, 2) := by decide +kernel
theorem dX0_pour_98 : decode cX0_pour 98 = .ok (.saload, 1) := by decide +kernel
theorem dX0_pour_99 : decode cX0_pour 99 = .ok (.invokevirtual 44, 3) := by decide +kernel
theorem dX0_pour_102 : decode cX0_pour 102 = .ok (.iinc 4 1, 3) := by decide +kernel
theorem dX0_pour_105 : decode cX0_pour 105 = .ok (.goto (-24), 3) := by decide +kernel
theorem dX0_pour_108 : decode cX0_pour 108 = .ok (.aload_n 0, 1) := by decide +kernel
theorem dX0_pour_109 : decode cX0_pour 109 = .ok (.getfield 13, 3) := by decide +kernel
theorem dX0_pour_112 : decode cX0_pour 112 = .ok (.iload_n 1, 1) := by decide +kernel
theorem dX0_pour_113 : decode cX0_pour 113 = .ok (.baload, 1) := by decide +kernel
theorem dX0_pour_114 : decode cX0_pour 114 = .ok (.ireturn, 1) := by decide +kernel
abbrev cX0_clear : ByteArray := prog_1_method_12_code
def yX0_clear : MethodName := ⟨RX0, "clear", "(I)I"⟩
theorem dX0_clear_0 : decode cX0_clear 0 = .ok (.aload_n 0, 1) := by decide +kernel
theorem dX0_clear_1 : decode cX0_clear 1 = .ok (.iload_n 1, 1) := by decide +kernel
theorem dX0_clear_2 : decode cX0_clear 2 = .ok (.invokevirtual 33, 3) := by decide +kernel
theorem dX0_clear_5 : decode cX0_clear 5 = .ok (.ifCond .ne 5, 3) := by decide +kernel
theorem dX0_clear_8 : decode cX0_clear 8 = .ok (.iconst (-1), 1) := by decide +kernel
theorem dX0_clear_9 : decode cX0_clear 9 = .ok (.ireturn, 1) := by decide +kernel
theorem dX0_clear_10 : decode cX0_clear 10 = .ok (.aload_n 0, 1) := by decide +kernel
theorem dX0_clear_11 : decode cX0_clear 11 = .ok (.getfield 13, 3) := by decide +kernel
theorem dX0_clear_14 : decode cX0_clear 14 = .ok (.iload_n 1, 1) := by decide +kernel
theorem dX0_clear_15 : decode cX0_clear 15 = .ok (.baload, 1) := by decide +kernel
theorem dX0_clear_16 : decode cX0_clear 16 = .ok (.istore_n 2, 1) := by decide +kernel
theorem dX0_clear_17 : decode cX0_clear 17 = .ok (.aload_n 0, 1) := by decide +kernel
theorem dX0_clear_18 : decode cX0_clear 18 = .ok (.iload_n 1, 1) := by decide +kernel
theorem dX0_clear_19 : decode cX0_clear 19 = .ok (.invokevirtual 66, 3) := by decide +kernel
theorem dX0_clear_22 : decode cX0_clear 22 = .ok (.iload_n 2, 1) := by decide +kernel
theorem dX0_clear_23 : decode cX0_clear 23 = .ok (.ireturn, 1) := by decide +kernel
end
section
set_option maxRecDepth 100000
/-! java/lang/Object -/
set_option maxRecDepth 100000
def RJ0 : String := "java/lang/Object"
abbrev cJ0_init : ByteArray := object_method_1_code
def yJ0_init : MethodName := ⟨RJ0, "<init>", "()V"⟩
theorem dJ0_init_0 : decode cJ0_init 0 = .ok (.return_, 1) := by decide +kernel
theorem q29 : (Jvm.Cond.instanceMethod ({ cls := "java/lang/Object", name := "<init>", desc := "()V" } : Jvm.MethodName)) ∈ lw_all := lw_g (lw_at lw_m0 9 rfl) rfl
theorem q30 : (Jvm.Cond.code ({ cls := "java/lang/Object", name := "<init>", desc := "()V" } : Jvm.MethodName) object_method_1_code (1 : Nat) (Option.none : Option Jvm.ClassFile.FieldType)) ∈ lw_all := lw_g (lw_at lw_m0 10 rfl) rfl
theorem q56 : (Jvm.Cond.arrayClass Jvm.ClassFile.FieldType.byte) ∈ lw_all := lw_g (lw_at lw_m0 36 rfl) rfl
set_option maxRecDepth 100000
theorem q57 : (Jvm.Cond.arrayClass Jvm.ClassFile.FieldType.boolean) ∈ lw_all := lw_g (lw_at lw_m0 37 rfl) rfl
theorem q58 : (Jvm.Cond.arrayClass Jvm.ClassFile.FieldType.short) ∈ lw_all := lw_g (lw_at lw_m0 38 rfl) rfl
theorem q198 : (Jvm.Cond.arrayClass Jvm.ClassFile.FieldType.int) ∈ lw_all := lw_g (lw_at lw_m0 178 rfl) rfl
theorem q21 : (Jvm.Cond.initialized "QuotientFilter") ∈ lw_all := lw_g (lw_at lw_m0 1 rfl) rfl
theorem q24 : (Jvm.Cond.instantiable "QuotientFilter" (8 : Nat)) ∈ lw_all := lw_g (lw_at lw_m0 4 rfl) rfl
theorem q26 : (Jvm.Cond.instanceMethod ({ cls := "QuotientFilter", name := "<init>", desc := "()V" } : Jvm.MethodName)) ∈ lw_all := lw_g (lw_at lw_m0 6 rfl) rfl
theorem q27 : (Jvm.Cond.code ({ cls := "QuotientFilter", name := "<init>", desc := "()V" } : Jvm.MethodName) prog_1_method_1_code (1 : Nat) (Option.none : Option Jvm.ClassFile.FieldType)) ∈ lw_all := lw_g (lw_at lw_m0 7 rfl) rfl
theorem q28 : (Jvm.Cond.methodLink "QuotientFilter" (1 : Nat) ({ cls := "java/lang/Object", name := "<init>", desc := "()V" } : Jvm.MethodName)) ∈ lw_all := lw_g (lw_at lw_m0 8 rfl) rfl
theorem q31 : (Jvm.Cond.fieldLink "QuotientFilter" (7 : Nat) "QuotientFilter" "slotBits" "[B") ∈ lw_all := lw_g (lw_at lw_m0 11 rfl) rfl
theorem q32 : (Jvm.Cond.fieldLink "QuotientFilter" (13 : Nat) "QuotientFilter" "held" "[B") ∈ lw_all := lw_g (lw_at lw_m0 12 rfl) rfl
theorem q33 : (Jvm.Cond.fieldLink "QuotientFilter" (16 : Nat) "QuotientFilter" "lower" "[B") ∈ lw_all := lw_g (lw_at lw_m0 13 rfl) rfl
theorem q34 : (Jvm.Cond.fieldLink "QuotientFilter" (19 : Nat) "QuotientFilter" "named" "[Z") ∈ lw_all := lw_g (lw_at lw_m0 14 rfl) rfl
theorem q35 : (Jvm.Cond.fieldLink "QuotientFilter" (23 : Nat) "QuotientFilter" "goesOn" "[Z") ∈ lw_all := lw_g (lw_at lw_m0 15 rfl) rfl
theorem q36 : (Jvm.Cond.fieldLink "QuotientFilter" (26 : Nat) "QuotientFilter" "pushed" "[Z") ∈ lw_all := lw_g (lw_at lw_m0 16 rfl) rfl
theorem q37 : (Jvm.Cond.fieldLink "QuotientFilter" (59 : Nat) "QuotientFilter" "readCount" "I") ∈ lw_all := lw_g (lw_at lw_m0 17 rfl) rfl
theorem q38 : (Jvm.Cond.fieldLink "QuotientFilter" (29 : Nat) "QuotientFilter" "read" "[S") ∈ lw_all := lw_g (lw_at lw_m0 18 rfl) rfl
theorem q39 : (Jvm.Cond.laysFinal "QuotientFilter" "QuotientFilter" "slotBits" "[B") ∈ lw_all := lw_g (lw_at lw_m0 19 rfl) rfl
theorem q40 : (Jvm.Cond.soleField "QuotientFilter" "slotBits") ∈ lw_all := lw_g (lw_at lw_m0 20 rfl) rfl
theorem q41 : (Jvm.Cond.laysFinal "QuotientFilter" "QuotientFilter" "held" "[B") ∈ lw_all := lw_g (lw_at lw_m0 21 rfl) rfl
theorem q42 : (Jvm.Cond.soleField "QuotientFilter" "held") ∈ lw_all := lw_g (lw_at lw_m0 22 rfl) rfl
theorem q43 : (Jvm.Cond.laysFinal "QuotientFilter" "QuotientFilter" "lower" "[B") ∈ lw_all := lw_g (lw_at lw_m0 23 rfl) rfl
theorem q44 : (Jvm.Cond.soleField "QuotientFilter" "lower") ∈ lw_all := lw_g (lw_at lw_m0 24 rfl) rfl
theorem q45 : (Jvm.Cond.laysFinal "QuotientFilter" "QuotientFilter" "named" "[Z") ∈ lw_all := lw_g (lw_at lw_m0 25 rfl) rfl
theorem q46 : (Jvm.Cond.soleField "QuotientFilter" "named") ∈ lw_all := lw_g (lw_at lw_m0 26 rfl) rfl
theorem q47 : (Jvm.Cond.laysFinal "QuotientFilter" "QuotientFilter" "goesOn" "[Z") ∈ lw_all := lw_g (lw_at lw_m0 27 rfl) rfl
theorem q48 : (Jvm.Cond.soleField "QuotientFilter" "goesOn") ∈ lw_all := lw_g (lw_at lw_m0 28 rfl) rfl
theorem q49 : (Jvm.Cond.laysFinal "QuotientFilter" "QuotientFilter" "pushed" "[Z") ∈ lw_all := lw_g (lw_at lw_m0 29 rfl) rfl
theorem q50 : (Jvm.Cond.soleField "QuotientFilter" "pushed") ∈ lw_all := lw_g (lw_at lw_m0 30 rfl) rfl
theorem q51 : (Jvm.Cond.lays "QuotientFilter" "QuotientFilter" "readCount" "I") ∈ lw_all := lw_g (lw_at lw_m0 31 rfl) rfl
theorem q52 : (Jvm.Cond.soleField "QuotientFilter" "readCount") ∈ lw_all := lw_g (lw_at lw_m0 32 rfl) rfl
theorem q53 : (Jvm.Cond.laysFinal "QuotientFilter" "QuotientFilter" "read" "[S") ∈ lw_all := lw_g (lw_at lw_m0 33 rfl) rfl
theorem q54 : (Jvm.Cond.soleField "QuotientFilter" "read") ∈ lw_all := lw_g (lw_at lw_m0 34 rfl) rfl
theorem q55 : (Jvm.Cond.superclass "QuotientFilter" "java/lang/Object") ∈ lw_all := lw_g (lw_at lw_m0 35 rfl) rfl
theorem q60 : (Jvm.Cond.instanceMethod ({ cls := "QuotientFilter", name := "add", desc := "(II)I" } : Jvm.MethodName)) ∈ lw_all := lw_g (lw_at lw_m0 40 rfl) rfl
theorem q61 : (Jvm.Cond.selects "QuotientFilter" ({ cls := "QuotientFilter", name := "add", desc := "(II)I" } : Jvm.MethodName) ({ cls := "QuotientFilter", name := "add", desc := "(II)I" } : Jvm.MethodName)) ∈ lw_all := lw_g (lw_at lw_m0 41 rfl) rfl
theorem q62 : (Jvm.Cond.code ({ cls := "QuotientFilter", name := "add", desc := "(II)I" } : Jvm.MethodName) prog_1_method_2_code (4 : Nat) (Option.some Jvm.ClassFile.FieldType.int)) ∈ lw_all := lw_g (lw_at lw_m0 42 rfl) rfl
theorem q63 : (Jvm.Cond.methodLink "QuotientFilter" (33 : Nat) ({ cls := "QuotientFilter", name := "isFilter", desc := "(I)Z" } : Jvm.MethodName)) ∈ lw_all := lw_g (lw_at lw_m0 43 rfl) rfl
theorem q64 : (Jvm.Cond.privateMethod ({ cls := "QuotientFilter", name := "isFilter", desc := "(I)Z" } : Jvm.MethodName)) ∈ lw_tbl := lw_at lw_m0 44 rfl
theorem q65 : (Jvm.Cond.instanceMethod ({ cls := "QuotientFilter", name := "isFilter", desc := "(I)Z" } : Jvm.MethodName)) ∈ lw_all := lw_g (lw_at lw_m0 45 rfl) rfl
theorem q66 : (Jvm.Cond.code ({ cls := "QuotientFilter", name := "isFilter", desc := "(I)Z" } : Jvm.MethodName) prog_1_method_14_code (2 : Nat) (Option.some Jvm.ClassFile.FieldType.boolean)) ∈ lw_all := lw_g (lw_at lw_m0 46 rfl) rfl
theorem q67 : (Jvm.Cond.methodLink "QuotientFilter" (37 : Nat) ({ cls := "QuotientFilter", name := "slots", desc := "(I)I" } : Jvm.MethodName)) ∈ lw_all := lw_g (lw_at lw_m0 47 rfl) rfl
theorem q68 : (Jvm.Cond.privateMethod ({ cls := "QuotientFilter", name := "slots", desc := "(I)I" } : Jvm.MethodName)) ∈ lw_tbl := lw_at lw_m0 48 rfl
theorem q69 : (Jvm.Cond.instanceMethod ({ cls := "QuotientFilter", name := "slots", desc := "(I)I" } : Jvm.MethodName)) ∈ lw_all := lw_g (lw_at lw_m0 49 rfl) rfl
theorem q70 : (Jvm.Cond.code ({ cls := "QuotientFilter", name := "slots", desc := "(I)I" } : Jvm.MethodName) prog_1_method_15_code (2 : Nat) (Option.some Jvm.ClassFile.FieldType.int)) ∈ lw_all := lw_g (lw_at lw_m0 50 rfl) rfl
theorem q71 : (Jvm.Cond.methodLink "QuotientFilter" (41 : Nat) ({ cls := "QuotientFilter", name := "printOf", desc := "(I)I" } : Jvm.MethodName)) ∈ lw_all := lw_g (lw_at lw_m0 51 rfl) rfl
theorem q72 : (Jvm.Cond.instanceMethod ({ cls := "QuotientFilter", name := "printOf", desc := "(I)I" } : Jvm.MethodName)) ∈ lw_all := lw_g (lw_at lw_m0 52 rfl) rfl
theorem q73 : (Jvm.Cond.selects "QuotientFilter" ({ cls := "QuotientFilter", name := "printOf", desc := "(I)I" } : Jvm.MethodName) ({ cls := "QuotientFilter", name := "printOf", desc := "(I)I" } : Jvm.MethodName)) ∈ lw_all := lw_g (lw_at lw_m0 53 rfl) rfl
theorem q74 : (Jvm.Cond.code ({ cls := "QuotientFilter", name := "printOf", desc := "(I)I" } : Jvm.MethodName) prog_1_method_13_code (2 : Nat) (Option.some Jvm.ClassFile.FieldType.int)) ∈ lw_all := lw_g (lw_at lw_m0 54 rfl) rfl
theorem q75 : (Jvm.Cond.constant "QuotientFilter" (69 : Nat) (-1640531535 : Int32)) ∈ lw_all := lw_g (lw_at lw_m0 55 rfl) rfl
theorem q76 : (Jvm.Cond.methodLink "QuotientFilter" (44 : Nat) ({ cls := "QuotientFilter", name := "insert", desc := "(II)V" } : Jvm.MethodName)) ∈ lw_all := lw_g (lw_at lw_m0 56 rfl) rfl
theorem q77 : (Jvm.Cond.privateMethod ({ cls := "QuotientFilter", name := "insert", desc := "(II)V" } : Jvm.MethodName)) ∈ lw_tbl := lw_at lw_m0 57 rfl
theorem q78 : (Jvm.Cond.instanceMethod ({ cls := "QuotientFilter", name := "insert", desc := "(II)V" } : Jvm.MethodName)) ∈ lw_all := lw_g (lw_at lw_m0 58 rfl) rfl
theorem q79 : (Jvm.Cond.code ({ cls := "QuotientFilter", name := "insert", desc := "(II)V" } : Jvm.MethodName) prog_1_method_27_code (10 : Nat) (Option.none : Option Jvm.ClassFile.FieldType)) ∈ lw_all := lw_g (lw_at lw_m0 59 rfl) rfl
theorem q80 : (Jvm.Cond.methodLink "QuotientFilter" (70 : Nat) ({ cls := "QuotientFilter", name := "base", desc := "(I)I" } : Jvm.MethodName)) ∈ lw_all := lw_g (lw_at lw_m0 60 rfl) rfl
theorem q81 : (Jvm.Cond.privateMethod ({ cls := "QuotientFilter", name := "base", desc := "(I)I" } : Jvm.MethodName)) ∈ lw_tbl := lw_at lw_m0 61 rfl
theorem q82 : (Jvm.Cond.instanceMethod ({ cls := "QuotientFilter", name := "base", desc := "(I)I" } : Jvm.MethodName)) ∈ lw_all := lw_g (lw_at lw_m0 62 rfl) rfl
theorem q83 : (Jvm.Cond.code ({ cls := "QuotientFilter", name := "base", desc := "(I)I" } : Jvm.MethodName) prog_1_method_18_code (2 : Nat) (Option.some Jvm.ClassFile.FieldType.int)) ∈ lw_all := lw_g (lw_at lw_m0 63 rfl) rfl
theorem q84 : (Jvm.Cond.methodLink "QuotientFilter" (86 : Nat) ({ cls := "QuotientFilter", name := "slotOf", desc := "(II)I" } : Jvm.MethodName)) ∈ lw_all := lw_g (lw_at lw_m0 64 rfl) rfl
theorem q85 : (Jvm.Cond.privateMethod ({ cls := "QuotientFilter", name := "slotOf", desc := "(II)I" } : Jvm.MethodName)) ∈ lw_tbl := lw_at lw_m0 65 rfl
theorem q86 : (Jvm.Cond.instanceMethod ({ cls := "QuotientFilter", name := "slotOf", desc := "(II)I" } : Jvm.MethodName)) ∈ lw_all := lw_g (lw_at lw_m0 66 rfl) rfl
theorem q87 : (Jvm.Cond.code ({ cls := "QuotientFilter", name := "slotOf", desc := "(II)I" } : Jvm.MethodName) prog_1_method_21_code (3 : Nat) (Option.some Jvm.ClassFile.FieldType.int)) ∈ lw_all := lw_g (lw_at lw_m0 67 rfl) rfl
theorem q88 : (Jvm.Cond.methodLink "QuotientFilter" (89 : Nat) ({ cls := "QuotientFilter", name := "lowerOf", desc := "(II)I" } : Jvm.MethodName)) ∈ lw_all := lw_g (lw_at lw_m0 68 rfl) rfl
theorem q89 : (Jvm.Cond.privateMethod ({ cls := "QuotientFilter", name := "lowerOf", desc := "(II)I" } : Jvm.MethodName)) ∈ lw_tbl := lw_at lw_m0 69 rfl
theorem q90 : (Jvm.Cond.instanceMethod ({ cls := "QuotientFilter", name := "lowerOf", desc := "(II)I" } : Jvm.MethodName)) ∈ lw_all := lw_g (lw_at lw_m0 70 rfl) rfl
theorem q91 : (Jvm.Cond.code ({ cls := "QuotientFilter", name := "lowerOf", desc := "(II)I" } : Jvm.MethodName) prog_1_method_22_code (3 : Nat) (Option.some Jvm.ClassFile.FieldType.int)) ∈ lw_all := lw_g (lw_at lw_m0 71 rfl) rfl
theorem q92 : (Jvm.Cond.methodLink "QuotientFilter" (95 : Nat) ({ cls := "QuotientFilter", name := "isFree", desc := "(II)Z" } : Jvm.MethodName)) ∈ lw_all := lw_g (lw_at lw_m0 72 rfl) rfl
theorem q93 : (Jvm.Cond.privateMethod ({ cls := "QuotientFilter", name := "isFree", desc := "(II)Z" } : Jvm.MethodName)) ∈ lw_tbl := lw_at lw_m0 73 rfl
theorem q94 : (Jvm.Cond.instanceMethod ({ cls := "QuotientFilter", name := "isFree", desc := "(II)Z" } : Jvm.MethodName)) ∈ lw_all := lw_g (lw_at lw_m0 74 rfl) rfl
theorem q95 : (Jvm.Cond.code ({ cls := "QuotientFilter", name := "isFree", desc := "(II)Z" } : Jvm.MethodName) prog_1_method_20_code (3 : Nat) (Option.some Jvm.ClassFile.FieldType.boolean)) ∈ lw_all := lw_g (lw_at lw_m0 75 rfl) rfl
theorem q96 : (Jvm.Cond.methodLink "QuotientFilter" (73 : Nat) ({ cls := "QuotientFilter", name := "holds", desc := "(II)Z" } : Jvm.MethodName)) ∈ lw_all := lw_g (lw_at lw_m0 76 rfl) rfl
theorem q97 : (Jvm.Cond.privateMethod ({ cls := "QuotientFilter", name := "holds", desc := "(II)Z" } : Jvm.MethodName)) ∈ lw_tbl := lw_at lw_m0 77 rfl
theorem q98 : (Jvm.Cond.instanceMethod ({ cls := "QuotientFilter", name := "holds", desc := "(II)Z" } : Jvm.MethodName)) ∈ lw_all := lw_g (lw_at lw_m0 78 rfl) rfl
theorem q99 : (Jvm.Cond.code ({ cls := "QuotientFilter", name := "holds", desc := "(II)Z" } : Jvm.MethodName) prog_1_method_19_code (4 : Nat) (Option.some Jvm.ClassFile.FieldType.boolean)) ∈ lw_all := lw_g (lw_at lw_m0 79 rfl) rfl
theorem q100 : (Jvm.Cond.methodLink "QuotientFilter" (92 : Nat) ({ cls := "QuotientFilter", name := "runStart", desc := "(II)I" } : Jvm.MethodName)) ∈ lw_all := lw_g (lw_at lw_m0 80 rfl) rfl
theorem q101 : (Jvm.Cond.privateMethod ({ cls := "QuotientFilter", name := "runStart", desc := "(II)I" } : Jvm.MethodName)) ∈ lw_tbl := lw_at lw_m0 81 rfl
theorem q102 : (Jvm.Cond.instanceMethod ({ cls := "QuotientFilter", name := "runStart", desc := "(II)I" } : Jvm.MethodName)) ∈ lw_all := lw_g (lw_at lw_m0 82 rfl) rfl
theorem q103 : (Jvm.Cond.code ({ cls := "QuotientFilter", name := "runStart", desc := "(II)I" } : Jvm.MethodName) prog_1_method_25_code (6 : Nat) (Option.some Jvm.ClassFile.FieldType.int)) ∈ lw_all := lw_g (lw_at lw_m0 83 rfl) rfl
theorem q104 : (Jvm.Cond.methodLink "QuotientFilter" (80 : Nat) ({ cls := "QuotientFilter", name := "beforeSlot", desc := "(II)I" } : Jvm.MethodName)) ∈ lw_all := lw_g (lw_at lw_m0 84 rfl) rfl
theorem q105 : (Jvm.Cond.privateMethod ({ cls := "QuotientFilter", name := "beforeSlot", desc := "(II)I" } : Jvm.MethodName)) ∈ lw_tbl := lw_at lw_m0 85 rfl
theorem q106 : (Jvm.Cond.instanceMethod ({ cls := "QuotientFilter", name := "beforeSlot", desc := "(II)I" } : Jvm.MethodName)) ∈ lw_all := lw_g (lw_at lw_m0 86 rfl) rfl
theorem q107 : (Jvm.Cond.code ({ cls := "QuotientFilter", name := "beforeSlot", desc := "(II)I" } : Jvm.MethodName) prog_1_method_17_code (3 : Nat) (Option.some Jvm.ClassFile.FieldType.int)) ∈ lw_all := lw_g (lw_at lw_m0 87 rfl) rfl
theorem q108 : (Jvm.Cond.methodLink "QuotientFilter" (83 : Nat) ({ cls := "QuotientFilter", name := "after", desc := "(II)I" } : Jvm.MethodName)) ∈ lw_all := lw_g (lw_at lw_m0 88 rfl) rfl
theorem q109 : (Jvm.Cond.privateMethod ({ cls := "QuotientFilter", name := "after", desc := "(II)I" } : Jvm.MethodName)) ∈ lw_tbl := lw_at lw_m0 89 rfl
theorem q110 : (Jvm.Cond.instanceMethod ({ cls := "QuotientFilter", name := "after", desc := "(II)I" } : Jvm.MethodName)) ∈ lw_all := lw_g (lw_at lw_m0 90 rfl) rfl
theorem q111 : (Jvm.Cond.code ({ cls := "QuotientFilter", name := "after", desc := "(II)I" } : Jvm.MethodName) prog_1_method_16_code (3 : Nat) (Option.some Jvm.ClassFile.FieldType.int)) ∈ lw_all := lw_g (lw_at lw_m0 91 rfl) rfl
theorem q112 : (Jvm.Cond.methodLink "QuotientFilter" (98 : Nat) ({ cls := "QuotientFilter", name := "push", desc := "(IIIZZ)V" } : Jvm.MethodName)) ∈ lw_all := lw_g (lw_at lw_m0 92 rfl) rfl
theorem q113 : (Jvm.Cond.privateMethod ({ cls := "QuotientFilter", name := "push", desc := "(IIIZZ)V" } : Jvm.MethodName)) ∈ lw_tbl := lw_at lw_m0 93 rfl
theorem q114 : (Jvm.Cond.instanceMethod ({ cls := "QuotientFilter", name := "push", desc := "(IIIZZ)V" } : Jvm.MethodName)) ∈ lw_all := lw_g (lw_at lw_m0 94 rfl) rfl
theorem q115 : (Jvm.Cond.code ({ cls := "QuotientFilter", name := "push", desc := "(IIIZZ)V" } : Jvm.MethodName) prog_1_method_28_code (14 : Nat) (Option.none : Option Jvm.ClassFile.FieldType)) ∈ lw_all := lw_g (lw_at lw_m0 95 rfl) rfl
theorem q116 : (Jvm.Cond.methodLink "QuotientFilter" (48 : Nat) ({ cls := "QuotientFilter", name := "timesOf", desc := "(II)I" } : Jvm.MethodName)) ∈ lw_all := lw_g (lw_at lw_m0 96 rfl) rfl
theorem q117 : (Jvm.Cond.privateMethod ({ cls := "QuotientFilter", name := "timesOf", desc := "(II)I" } : Jvm.MethodName)) ∈ lw_tbl := lw_at lw_m0 97 rfl
theorem q118 : (Jvm.Cond.instanceMethod ({ cls := "QuotientFilter", name := "timesOf", desc := "(II)I" } : Jvm.MethodName)) ∈ lw_all := lw_g (lw_at lw_m0 98 rfl) rfl
theorem q119 : (Jvm.Cond.code ({ cls := "QuotientFilter", name := "timesOf", desc := "(II)I" } : Jvm.MethodName) prog_1_method_26_code (8 : Nat) (Option.some Jvm.ClassFile.FieldType.int)) ∈ lw_all := lw_g (lw_at lw_m0 99 rfl) rfl
theorem q121 : (Jvm.Cond.instanceMethod ({ cls := "QuotientFilter", name := "remove", desc := "(II)I" } : Jvm.MethodName)) ∈ lw_all := lw_g (lw_at lw_m0 101 rfl) rfl
theorem q122 : (Jvm.Cond.selects "QuotientFilter" ({ cls := "QuotientFilter", name := "remove", desc := "(II)I" } : Jvm.MethodName) ({ cls := "QuotientFilter", name := "remove", desc := "(II)I" } : Jvm.MethodName)) ∈ lw_all := lw_g (lw_at lw_m0 102 rfl) rfl
theorem q123 : (Jvm.Cond.code ({ cls := "QuotientFilter", name := "remove", desc := "(II)I" } : Jvm.MethodName) prog_1_method_3_code (5 : Nat) (Option.some Jvm.ClassFile.FieldType.int)) ∈ lw_all := lw_g (lw_at lw_m0 103 rfl) rfl
theorem q124 : (Jvm.Cond.methodLink "QuotientFilter" (52 : Nat) ({ cls := "QuotientFilter", name := "takeOut", desc := "(II)V" } : Jvm.MethodName)) ∈ lw_all := lw_g (lw_at lw_m0 104 rfl) rfl
theorem q125 : (Jvm.Cond.privateMethod ({ cls := "QuotientFilter", name := "takeOut", desc := "(II)V" } : Jvm.MethodName)) ∈ lw_tbl := lw_at lw_m0 105 rfl
theorem q126 : (Jvm.Cond.instanceMethod ({ cls := "QuotientFilter", name := "takeOut", desc := "(II)V" } : Jvm.MethodName)) ∈ lw_all := lw_g (lw_at lw_m0 106 rfl) rfl
theorem q127 : (Jvm.Cond.code ({ cls := "QuotientFilter", name := "takeOut", desc := "(II)V" } : Jvm.MethodName) prog_1_method_29_code (8 : Nat) (Option.none : Option Jvm.ClassFile.FieldType)) ∈ lw_all := lw_g (lw_at lw_m0 107 rfl) rfl
theorem q128 : (Jvm.Cond.methodLink "QuotientFilter" (102 : Nat) ({ cls := "QuotientFilter", name := "readStretch", desc := "(III)I" } : Jvm.MethodName)) ∈ lw_all := lw_g (lw_at lw_m0 108 rfl) rfl
theorem q129 : (Jvm.Cond.privateMethod ({ cls := "QuotientFilter", name := "readStretch", desc := "(III)I" } : Jvm.MethodName)) ∈ lw_tbl := lw_at lw_m0 109 rfl
theorem q130 : (Jvm.Cond.instanceMethod ({ cls := "QuotientFilter", name := "readStretch", desc := "(III)I" } : Jvm.MethodName)) ∈ lw_all := lw_g (lw_at lw_m0 110 rfl) rfl
theorem q131 : (Jvm.Cond.code ({ cls := "QuotientFilter", name := "readStretch", desc := "(III)I" } : Jvm.MethodName) prog_1_method_30_code (7 : Nat) (Option.some Jvm.ClassFile.FieldType.int)) ∈ lw_all := lw_g (lw_at lw_m0 111 rfl) rfl
theorem q132 : (Jvm.Cond.methodLink "QuotientFilter" (77 : Nat) ({ cls := "QuotientFilter", name := "free", desc := "(II)V" } : Jvm.MethodName)) ∈ lw_all := lw_g (lw_at lw_m0 112 rfl) rfl
theorem q133 : (Jvm.Cond.privateMethod ({ cls := "QuotientFilter", name := "free", desc := "(II)V" } : Jvm.MethodName)) ∈ lw_tbl := lw_at lw_m0 113 rfl
theorem q134 : (Jvm.Cond.instanceMethod ({ cls := "QuotientFilter", name := "free", desc := "(II)V" } : Jvm.MethodName)) ∈ lw_all := lw_g (lw_at lw_m0 114 rfl) rfl
theorem q135 : (Jvm.Cond.code ({ cls := "QuotientFilter", name := "free", desc := "(II)V" } : Jvm.MethodName) prog_1_method_24_code (4 : Nat) (Option.none : Option Jvm.ClassFile.FieldType)) ∈ lw_all := lw_g (lw_at lw_m0 115 rfl) rfl
theorem q137 : (Jvm.Cond.instanceMethod ({ cls := "QuotientFilter", name := "maybe", desc := "(II)Z" } : Jvm.MethodName)) ∈ lw_all := lw_g (lw_at lw_m0 117 rfl) rfl
theorem q138 : (Jvm.Cond.selects "QuotientFilter" ({ cls := "QuotientFilter", name := "maybe", desc := "(II)Z" } : Jvm.MethodName) ({ cls := "QuotientFilter", name := "maybe", desc := "(II)Z" } : Jvm.MethodName)) ∈ lw_all := lw_g (lw_at lw_m0 118 rfl) rfl
theorem q139 : (Jvm.Cond.code ({ cls := "QuotientFilter", name := "maybe", desc := "(II)Z" } : Jvm.MethodName) prog_1_method_4_code (4 : Nat) (Option.some Jvm.ClassFile.FieldType.boolean)) ∈ lw_all := lw_g (lw_at lw_m0 119 rfl) rfl
theorem q141 : (Jvm.Cond.instanceMethod ({ cls := "QuotientFilter", name := "times", desc := "(II)I" } : Jvm.MethodName)) ∈ lw_all := lw_g (lw_at lw_m0 121 rfl) rfl
theorem q142 : (Jvm.Cond.selects "QuotientFilter" ({ cls := "QuotientFilter", name := "times", desc := "(II)I" } : Jvm.MethodName) ({ cls := "QuotientFilter", name := "times", desc := "(II)I" } : Jvm.MethodName)) ∈ lw_all := lw_g (lw_at lw_m0 122 rfl) rfl
theorem q143 : (Jvm.Cond.code ({ cls := "QuotientFilter", name := "times", desc := "(II)I" } : Jvm.MethodName) prog_1_method_5_code (3 : Nat) (Option.some Jvm.ClassFile.FieldType.int)) ∈ lw_all := lw_g (lw_at lw_m0 123 rfl) rfl
theorem q145 : (Jvm.Cond.instanceMethod ({ cls := "QuotientFilter", name := "count", desc := "(I)I" } : Jvm.MethodName)) ∈ lw_all := lw_g (lw_at lw_m0 125 rfl) rfl
theorem q146 : (Jvm.Cond.selects "QuotientFilter" ({ cls := "QuotientFilter", name := "count", desc := "(I)I" } : Jvm.MethodName) ({ cls := "QuotientFilter", name := "count", desc := "(I)I" } : Jvm.MethodName)) ∈ lw_all := lw_g (lw_at lw_m0 126 rfl) rfl
theorem q147 : (Jvm.Cond.code ({ cls := "QuotientFilter", name := "count", desc := "(I)I" } : Jvm.MethodName) prog_1_method_6_code (2 : Nat) (Option.some Jvm.ClassFile.FieldType.int)) ∈ lw_all := lw_g (lw_at lw_m0 127 rfl) rfl
theorem q149 : (Jvm.Cond.instanceMethod ({ cls := "QuotientFilter", name := "size", desc := "(I)I" } : Jvm.MethodName)) ∈ lw_all := lw_g (lw_at lw_m0 129 rfl) rfl
theorem q150 : (Jvm.Cond.selects "QuotientFilter" ({ cls := "QuotientFilter", name := "size", desc := "(I)I" } : Jvm.MethodName) ({ cls := "QuotientFilter", name := "size", desc := "(I)I" } : Jvm.MethodName)) ∈ lw_all := lw_g (lw_at lw_m0 130 rfl) rfl
theorem q151 : (Jvm.Cond.code ({ cls := "QuotientFilter", name := "size", desc := "(I)I" } : Jvm.MethodName) prog_1_method_7_code (2 : Nat) (Option.some Jvm.ClassFile.FieldType.int)) ∈ lw_all := lw_g (lw_at lw_m0 131 rfl) rfl
theorem q153 : (Jvm.Cond.instanceMethod ({ cls := "QuotientFilter", name := "print", desc := "(II)I" } : Jvm.MethodName)) ∈ lw_all := lw_g (lw_at lw_m0 133 rfl) rfl
theorem q154 : (Jvm.Cond.selects "QuotientFilter" ({ cls := "QuotientFilter", name := "print", desc := "(II)I" } : Jvm.MethodName) ({ cls := "QuotientFilter", name := "print", desc := "(II)I" } : Jvm.MethodName)) ∈ lw_all := lw_g (lw_at lw_m0 134 rfl) rfl
theorem q155 : (Jvm.Cond.code ({ cls := "QuotientFilter", name := "print", desc := "(II)I" } : Jvm.MethodName) prog_1_method_8_code (7 : Nat) (Option.some Jvm.ClassFile.FieldType.int)) ∈ lw_all := lw_g (lw_at lw_m0 135 rfl) rfl
theorem q156 : (Jvm.Cond.methodLink "QuotientFilter" (55 : Nat) ({ cls := "QuotientFilter", name := "readAll", desc := "(I)V" } : Jvm.MethodName)) ∈ lw_all := lw_g (lw_at lw_m0 136 rfl) rfl
theorem q157 : (Jvm.Cond.privateMethod ({ cls := "QuotientFilter", name := "readAll", desc := "(I)V" } : Jvm.MethodName)) ∈ lw_tbl := lw_at lw_m0 137 rfl
theorem q158 : (Jvm.Cond.instanceMethod ({ cls := "QuotientFilter", name := "readAll", desc := "(I)V" } : Jvm.MethodName)) ∈ lw_all := lw_g (lw_at lw_m0 138 rfl) rfl
theorem q159 : (Jvm.Cond.code ({ cls := "QuotientFilter", name := "readAll", desc := "(I)V" } : Jvm.MethodName) prog_1_method_31_code (4 : Nat) (Option.none : Option Jvm.ClassFile.FieldType)) ∈ lw_all := lw_g (lw_at lw_m0 139 rfl) rfl
theorem q161 : (Jvm.Cond.instanceMethod ({ cls := "QuotientFilter", name := "grow", desc := "(I)I" } : Jvm.MethodName)) ∈ lw_all := lw_g (lw_at lw_m0 141 rfl) rfl
theorem q162 : (Jvm.Cond.selects "QuotientFilter" ({ cls := "QuotientFilter", name := "grow", desc := "(I)I" } : Jvm.MethodName) ({ cls := "QuotientFilter", name := "grow", desc := "(I)I" } : Jvm.MethodName)) ∈ lw_all := lw_g (lw_at lw_m0 142 rfl) rfl
theorem q163 : (Jvm.Cond.code ({ cls := "QuotientFilter", name := "grow", desc := "(I)I" } : Jvm.MethodName) prog_1_method_9_code (2 : Nat) (Option.some Jvm.ClassFile.FieldType.int)) ∈ lw_all := lw_g (lw_at lw_m0 143 rfl) rfl
theorem q164 : (Jvm.Cond.methodLink "QuotientFilter" (63 : Nat) ({ cls := "QuotientFilter", name := "resize", desc := "(II)V" } : Jvm.MethodName)) ∈ lw_all := lw_g (lw_at lw_m0 144 rfl) rfl
theorem q165 : (Jvm.Cond.privateMethod ({ cls := "QuotientFilter", name := "resize", desc := "(II)V" } : Jvm.MethodName)) ∈ lw_tbl := lw_at lw_m0 145 rfl
theorem q166 : (Jvm.Cond.instanceMethod ({ cls := "QuotientFilter", name := "resize", desc := "(II)V" } : Jvm.MethodName)) ∈ lw_all := lw_g (lw_at lw_m0 146 rfl) rfl
theorem q167 : (Jvm.Cond.code ({ cls := "QuotientFilter", name := "resize", desc := "(II)V" } : Jvm.MethodName) prog_1_method_32_code (4 : Nat) (Option.none : Option Jvm.ClassFile.FieldType)) ∈ lw_all := lw_g (lw_at lw_m0 147 rfl) rfl
theorem q168 : (Jvm.Cond.methodLink "QuotientFilter" (66 : Nat) ({ cls := "QuotientFilter", name := "empty", desc := "(I)V" } : Jvm.MethodName)) ∈ lw_all := lw_g (lw_at lw_m0 148 rfl) rfl
theorem q169 : (Jvm.Cond.privateMethod ({ cls := "QuotientFilter", name := "empty", desc := "(I)V" } : Jvm.MethodName)) ∈ lw_tbl := lw_at lw_m0 149 rfl
theorem q170 : (Jvm.Cond.instanceMethod ({ cls := "QuotientFilter", name := "empty", desc := "(I)V" } : Jvm.MethodName)) ∈ lw_all := lw_g (lw_at lw_m0 150 rfl) rfl
theorem q171 : (Jvm.Cond.code ({ cls := "QuotientFilter", name := "empty", desc := "(I)V" } : Jvm.MethodName) prog_1_method_23_code (3 : Nat) (Option.none : Option Jvm.ClassFile.FieldType)) ∈ lw_all := lw_g (lw_at lw_m0 151 rfl) rfl
theorem q173 : (Jvm.Cond.instanceMethod ({ cls := "QuotientFilter", name := "shrink", desc := "(I)I" } : Jvm.MethodName)) ∈ lw_all := lw_g (lw_at lw_m0 153 rfl) rfl
theorem q174 : (Jvm.Cond.selects "QuotientFilter" ({ cls := "QuotientFilter", name := "shrink", desc := "(I)I" } : Jvm.MethodName) ({ cls := "QuotientFilter", name := "shrink", desc := "(I)I" } : Jvm.MethodName)) ∈ lw_all := lw_g (lw_at lw_m0 154 rfl) rfl
theorem q175 : (Jvm.Cond.code ({ cls := "QuotientFilter", name := "shrink", desc := "(I)I" } : Jvm.MethodName) prog_1_method_10_code (2 : Nat) (Option.some Jvm.ClassFile.FieldType.int)) ∈ lw_all := lw_g (lw_at lw_m0 155 rfl) rfl
theorem q177 : (Jvm.Cond.instanceMethod ({ cls := "QuotientFilter", name := "pour", desc := "(I)I" } : Jvm.MethodName)) ∈ lw_all := lw_g (lw_at lw_m0 157 rfl) rfl
theorem q178 : (Jvm.Cond.selects "QuotientFilter" ({ cls := "QuotientFilter", name := "pour", desc := "(I)I" } : Jvm.MethodName) ({ cls := "QuotientFilter", name := "pour", desc := "(I)I" } : Jvm.MethodName)) ∈ lw_all := lw_g (lw_at lw_m0 158 rfl) rfl
theorem q179 : (Jvm.Cond.code ({ cls := "QuotientFilter", name := "pour", desc := "(I)I" } : Jvm.MethodName) prog_1_method_11_code (5 : Nat) (Option.some Jvm.ClassFile.FieldType.int)) ∈ lw_all := lw_g (lw_at lw_m0 159 rfl) rfl
theorem q181 : (Jvm.Cond.instanceMethod ({ cls := "QuotientFilter", name := "clear", desc := "(I)I" } : Jvm.MethodName)) ∈ lw_all := lw_g (lw_at lw_m0 161 rfl) rfl
theorem q182 : (Jvm.Cond.selects "QuotientFilter" ({ cls := "QuotientFilter", name := "clear", desc := "(I)I" } : Jvm.MethodName) ({ cls := "QuotientFilter", name := "clear", desc := "(I)I" } : Jvm.MethodName)) ∈ lw_all := lw_g (lw_at lw_m0 162 rfl) rfl
theorem q183 : (Jvm.Cond.code ({ cls := "QuotientFilter", name := "clear", desc := "(I)I" } : Jvm.MethodName) prog_1_method_12_code (3 : Nat) (Option.some Jvm.ClassFile.FieldType.int)) ∈ lw_all := lw_g (lw_at lw_m0 163 rfl) rfl
theorem in_X0 : ∀ w ∈ wsX00, w ∈ lw_all := lw_in wsX00 [39, 41, 43, 45, 47, 49, 51, 53] (by decide +kernel) (by decide +kernel)
end
section
/-! QuotientFilterModel -/
set_option maxRecDepth 100000
def RX1 : String := "QuotientFilterModel"
def TX1 : u_T := fun k => match k with
  | 0 => ("QuotientFilterModel", "often", "[I", false)
  | _ => ("QuotientFilterModel", "sizes", "[I", false)
def tyX1 : Nat → FieldType := fun k => match k with
  | 0 => .array .int
  | _ => .array .int
abbrev wsX10 : List Cond := u_ws RX1 TX1 2
theorem nmX1 : ∀ a, a < 2 → ∀ b, b < 2 → a ≠ b → (TX1 a).2.1 ≠ (TX1 b).2.1 := by decide +kernel
theorem tyX1_ok : ∀ k, k < 2 → parseFieldDescriptor (TX1 k).2.2.1 = some (tyX1 k) := by decide +kernel
abbrev cX1_init : ByteArray := prog_3_method_1_code
def yX1_init : MethodName := ⟨RX1, "<init>", "()V"⟩
theorem dX1_init_0 : decode cX1_init 0 = .ok (.aload_n 0, 1) := by decide +kernel
theorem dX1_init_1 : decode cX1_init 1 = .ok (.invokespecial 1, 3) := by decide +kernel
theorem dX1_init_4 : decode cX1_init 4 = .ok (.aload_n 0, 1) := by decide +kernel
theorem dX1_init_5 : decode cX1_init 5 = .ok (.sipush 512, 3) := by decide +kernel
theorem dX1_init_8 : decode cX1_init 8 = .ok (.newarray .int, 2) := by decide +kernel
theorem dX1_init_10 : decode cX1_init 10 = .ok (.putfield 7, 3) := by decide +kernel
theorem dX1_init_13 : decode cX1_init 13 = .ok (.aload_n 0, 1) := by decide +kernel
theorem dX1_init_14 : decode cX1_init 14 = .ok (.iconst 2, 1) := by decide +kernel
theorem dX1_init_15 : decode cX1_init 15 = .ok (.newarray .int, 2) := by decide +kernel
theorem dX1_init_17 : decode cX1_init 17 = .ok (.putfield 13, 3) := by decide +kernel
theorem dX1_init_20 : decode cX1_init 20 = .ok (.aload_n 0, 1) := by decide +kernel
theorem dX1_init_21 : decode cX1_init 21 = .ok (.getfield 13, 3) := by decide +kernel
theorem dX1_init_24 : decode cX1_init 24 = .ok (.iconst 0, 1) := by decide +kernel
theorem dX1_init_25 : decode cX1_init 25 = .ok (.bipush 8, 2) := by decide +kernel
theorem dX1_init_27 : decode cX1_init 27 = .ok (.iastore, 1) := by decide +kernel
theorem dX1_init_28 : decode cX1_init 28 = .ok (.aload_n 0, 1) := by decide +kernel
theorem dX1_init_29 : decode cX1_init 29 = .ok (.getfield 13, 3) := by decide +kernel
theorem dX1_init_32 : decode cX1_init 32 = .ok (.iconst 1, 1) := by decide +kernel
theorem dX1_init_33 : decode cX1_init 33 = .ok (.bipush 8, 2) := by decide +kernel
theorem dX1_init_35 : decode cX1_init 35 = .ok (.iastore, 1) := by decide +kernel
theorem dX1_init_36 : decode cX1_init 36 = .ok (.return_, 1) := by decide +kernel
abbrev cX1_add : ByteArray := prog_3_method_3_code
def yX1_add : MethodName := ⟨RX1, "add", "(II)I"⟩
theorem dX1_add_0 : decode cX1_add 0 = .ok (.aload_n 0, 1) := by decide +kernel
theorem dX1_add_1 : decode cX1_add 1 = .ok (.iload_n 1, 1) := by decide +kernel
theorem dX1_add_2 : decode cX1_add 2 = .ok (.invokevirtual 16, 3) := by decide +kernel
theorem dX1_add_5 : decode cX1_add 5 = .ok (.ifCond .ne 5, 3) := by decide +kernel
theorem dX1_add_8 : decode cX1_add 8 = .ok (.iconst (-1), 1) := by decide +kernel
theorem dX1_add_9 : decode cX1_add 9 = .ok (.ireturn, 1) := by decide +kernel
theorem dX1_add_10 : decode cX1_add 10 = .ok (.aload_n 0, 1) := by decide +kernel
theorem dX1_add_11 : decode cX1_add 11 = .ok (.iload_n 1, 1) := by decide +kernel
theorem dX1_add_12 : decode cX1_add 12 = .ok (.invokevirtual 20, 3) := by decide +kernel
theorem dX1_add_15 : decode cX1_add 15 = .ok (.aload_n 0, 1) := by decide +kernel
theorem dX1_add_16 : decode cX1_add 16 = .ok (.getfield 13, 3) := by decide +kernel
theorem dX1_add_19 : decode cX1_add 19 = .ok (.iload_n 1, 1) := by decide +kernel
theorem dX1_add_20 : decode cX1_add 20 = .ok (.iaload, 1) := by decide +kernel
theorem dX1_add_21 : decode cX1_add 21 = .ok (.iconst 1, 1) := by decide +kernel
theorem dX1_add_22 : decode cX1_add 22 = .ok (.isub, 1) := by decide +kernel
theorem dX1_add_23 : decode cX1_add 23 = .ok (.if_icmp .lt 6, 3) := by decide +kernel
theorem dX1_add_26 : decode cX1_add 26 = .ok (.bipush (-2), 2) := by decide +kernel
theorem dX1_add_28 : decode cX1_add 28 = .ok (.ireturn, 1) := by decide +kernel
theorem dX1_add_29 : decode cX1_add 29 = .ok (.sipush 256, 3) := by decide +kernel
theorem dX1_add_32 : decode cX1_add 32 = .ok (.iload_n 1, 1) := by decide +kernel
theorem dX1_add_33 : decode cX1_add 33 = .ok (.imul, 1) := by decide +kernel
theorem dX1_add_34 : decode cX1_add 34 = .ok (.aload_n 0, 1) := by decide +kernel
theorem dX1_add_35 : decode cX1_add 35 = .ok (.iload_n 2, 1) := by decide +kernel
theorem dX1_add_36 : decode cX1_add 36 = .ok (.invokevirtual 24, 3) := by decide +kernel
theorem dX1_add_39 : decode cX1_add 39 = .ok (.iadd, 1) := by decide +kernel
theorem dX1_add_40 : decode cX1_add 40 = .ok (.istore_n 3, 1) := by decide +kernel
theorem dX1_add_41 : decode cX1_add 41 = .ok (.aload_n 0, 1) := by decide +kernel
theorem dX1_add_42 : decode cX1_add 42 = .ok (.getfield 7, 3) := by decide +kernel
theorem dX1_add_45 : decode cX1_add 45 = .ok (.iload_n 3, 1) := by decide +kernel
theorem dX1_add_46 : decode cX1_add 46 = .ok (.dup2, 1) := by decide +kernel
theorem dX1_add_47 : decode cX1_add 47 = .ok (.iaload, 1) := by decide +kernel
theorem dX1_add_48 : decode cX1_add 48 = .ok (.iconst 1, 1) := by decide +kernel
theorem dX1_add_49 : decode cX1_add 49 = .ok (.iadd, 1) := by decide +kernel
theorem dX1_add_50 : decode cX1_add 50 = .ok (.iastore, 1) := by decide +kernel
theorem dX1_add_51 : decode cX1_add 51 = .ok (.aload_n 0, 1) := by decide +kernel
theorem dX1_add_52 : decode cX1_add 52 = .ok (.getfield 7, 3) := by decide +kernel
theorem dX1_add_55 : decode cX1_add 55 = .ok (.iload_n 3, 1) := by decide +kernel
theorem dX1_add_56 : decode cX1_add 56 = .ok (.iaload, 1) := by decide +kernel
theorem dX1_add_57 : decode cX1_add 57 = .ok (.ireturn, 1) := by decide +kernel
abbrev cX1_isFilter : ByteArray := prog_3_method_2_code
def yX1_isFilter : MethodName := ⟨RX1, "isFilter", "(I)Z"⟩
theorem dX1_isFilter_0 : decode cX1_isFilter 0 = .ok (.iload_n 1, 1) := by decide +kernel
theorem dX1_isFilter_1 : decode cX1_isFilter 1 = .ok (.ifCond .eq 8, 3) := by decide +kernel
theorem dX1_isFilter_4 : decode cX1_isFilter 4 = .ok (.iload_n 1, 1) := by decide +kernel
theorem dX1_isFilter_5 : decode cX1_isFilter 5 = .ok (.iconst 1, 1) := by decide +kernel
theorem dX1_isFilter_6 : decode cX1_isFilter 6 = .ok (.if_icmp .ne 7, 3) := by decide +kernel
theorem dX1_isFilter_9 : decode cX1_isFilter 9 = .ok (.iconst 1, 1) := by decide +kernel
theorem dX1_isFilter_10 : decode cX1_isFilter 10 = .ok (.goto 4, 3) := by decide +kernel
theorem dX1_isFilter_13 : decode cX1_isFilter 13 = .ok (.iconst 0, 1) := by decide +kernel
theorem dX1_isFilter_14 : decode cX1_isFilter 14 = .ok (.ireturn, 1) := by decide +kernel
abbrev cX1_count : ByteArray := prog_3_method_7_code
def yX1_count : MethodName := ⟨RX1, "count", "(I)I"⟩
theorem dX1_count_0 : decode cX1_count 0 = .ok (.aload_n 0, 1) := by decide +kernel
theorem dX1_count_1 : decode cX1_count 1 = .ok (.iload_n 1, 1) := by decide +kernel
theorem dX1_count_2 : decode cX1_count 2 = .ok (.invokevirtual 16, 3) := by decide +kernel
theorem dX1_count_5 : decode cX1_count 5 = .ok (.ifCond .ne 5, 3) := by decide +kernel
theorem dX1_count_8 : decode cX1_count 8 = .ok (.iconst (-1), 1) := by decide +kernel
theorem dX1_count_9 : decode cX1_count 9 = .ok (.ireturn, 1) := by decide +kernel
theorem dX1_count_10 : decode cX1_count 10 = .ok (.iconst 0, 1) := by decide +kernel
theorem dX1_count_11 : decode cX1_count 11 = .ok (.istore_n 2, 1) := by decide +kernel
theorem dX1_count_12 : decode cX1_count 12 = .ok (.iconst 0, 1) := by decide +kernel
theorem dX1_count_13 : decode cX1_count 13 = .ok (.istore_n 3, 1) := by decide +kernel
theorem dX1_count_14 : decode cX1_count 14 = .ok (.iload_n 3, 1) := by decide +kernel
theorem dX1_count_15 : decode cX1_count 15 = .ok (.sipush 256, 3) := by decide +kernel
theorem dX1_count_18 : decode cX1_count 18 = .ok (.if_icmp .ge 24, 3) := by decide +kernel
theorem dX1_count_21 : decode cX1_count 21 = .ok (.iload_n 2, 1) := by decide +kernel
theorem dX1_count_22 : decode cX1_count 22 = .ok (.aload_n 0, 1) := by decide +kernel
theorem dX1_count_23 : decode cX1_count 23 = .ok (.getfield 7, 3) := by decide +kernel
theorem dX1_count_26 : decode cX1_count 26 = .ok (.sipush 256, 3) := by decide +kernel
theorem dX1_count_29 : decode cX1_count 29 = .ok (.iload_n 1, 1) := by decide +kernel
theorem dX1_count_30 : decode cX1_count 30 = .ok (.imul, 1) := by decide +kernel
theorem dX1_count_31 : decode cX1_count 31 = .ok (.iload_n 3, 1) := by decide +kernel
theorem dX1_count_32 : decode cX1_count 32 = .ok (.iadd, 1) := by decide +kernel
theorem dX1_count_33 : decode cX1_count 33 = .ok (.iaload, 1) := by decide +kernel
theorem dX1_count_34 : decode cX1_count 34 = .ok (.iadd, 1) := by decide +kernel
theorem dX1_count_35 : decode cX1_count 35 = .ok (.istore_n 2, 1) := by decide +kernel
theorem dX1_count_36 : decode cX1_count 36 = .ok (.iinc 3 1, 3) := by decide +kernel
theorem dX1_count_39 : decode cX1_count 39 = .ok (.goto (-25), 3) := by decide +kernel
theorem dX1_count_42 : decode cX1_count 42 = .ok (.iload_n 2, 1) := by decide +kernel
theorem dX1_count_43 : decode cX1_count 43 = .ok (.ireturn, 1) := by decide +kernel
abbrev cX1_printOf : ByteArray := prog_3_method_14_code
def yX1_printOf : MethodName := ⟨RX1, "printOf", "(I)I"⟩
theorem dX1_printOf_0 : decode cX1_printOf 0 = .ok (.iload_n 1, 1) := by decide +kernel
theorem dX1_printOf_1 : decode cX1_printOf 1 = .ok (.ldc 27, 2) := by decide +kernel
theorem dX1_printOf_3 : decode cX1_printOf 3 = .ok (.imul, 1) := by decide +kernel
theorem dX1_printOf_4 : decode cX1_printOf 4 = .ok (.bipush 24, 2) := by decide +kernel
theorem dX1_printOf_6 : decode cX1_printOf 6 = .ok (.iushr, 1) := by decide +kernel
theorem dX1_printOf_7 : decode cX1_printOf 7 = .ok (.ireturn, 1) := by decide +kernel
abbrev cX1_remove : ByteArray := prog_3_method_4_code
def yX1_remove : MethodName := ⟨RX1, "remove", "(II)I"⟩
theorem dX1_remove_0 : decode cX1_remove 0 = .ok (.aload_n 0, 1) := by decide +kernel
theorem dX1_remove_1 : decode cX1_remove 1 = .ok (.iload_n 1, 1) := by decide +kernel
theorem dX1_remove_2 : decode cX1_remove 2 = .ok (.invokevirtual 16, 3) := by decide +kernel
theorem dX1_remove_5 : decode cX1_remove 5 = .ok (.ifCond .ne 5, 3) := by decide +kernel
theorem dX1_remove_8 : decode cX1_remove 8 = .ok (.iconst (-1), 1) := by decide +kernel
theorem dX1_remove_9 : decode cX1_remove 9 = .ok (.ireturn, 1) := by decide +kernel
theorem dX1_remove_10 : decode cX1_remove 10 = .ok (.sipush 256, 3) := by decide +kernel
theorem dX1_remove_13 : decode cX1_remove 13 = .ok (.iload_n 1, 1) := by decide +kernel
theorem dX1_remove_14 : decode cX1_remove 14 = .ok (.imul, 1) := by decide +kernel
theorem dX1_remove_15 : decode cX1_remove 15 = .ok (.aload_n 0, 1) := by decide +kernel
theorem dX1_remove_16 : decode cX1_remove 16 = .ok (.iload_n 2, 1) := by decide +kernel
theorem dX1_remove_17 : decode cX1_remove 17 = .ok (.invokevirtual 24, 3) := by decide +kernel
theorem dX1_remove_20 : decode cX1_remove 20 = .ok (.iadd, 1) := by decide +kernel
theorem dX1_remove_21 : decode cX1_remove 21 = .ok (.istore_n 3, 1) := by decide +kernel
theorem dX1_remove_22 : decode cX1_remove 22 = .ok (.aload_n 0, 1) := by decide +kernel
theorem dX1_remove_23 : decode cX1_remove 23 = .ok (.getfield 7, 3) := by decide +kernel
theorem dX1_remove_26 : decode cX1_remove 26 = .ok (.iload_n 3, 1) := by decide +kernel
theorem dX1_remove_27 : decode cX1_remove 27 = .ok (.iaload, 1) := by decide +kernel
theorem dX1_remove_28 : decode cX1_remove 28 = .ok (.ifCond .ne 6, 3) := by decide +kernel
theorem dX1_remove_31 : decode cX1_remove 31 = .ok (.bipush (-3), 2) := by decide +kernel
theorem dX1_remove_33 : decode cX1_remove 33 = .ok (.ireturn, 1) := by decide +kernel
theorem dX1_remove_34 : decode cX1_remove 34 = .ok (.aload_n 0, 1) := by decide +kernel
theorem dX1_remove_35 : decode cX1_remove 35 = .ok (.getfield 7, 3) := by decide +kernel
theorem dX1_remove_38 : decode cX1_remove 38 = .ok (.iload_n 3, 1) := by decide +kernel
theorem dX1_remove_39 : decode cX1_remove 39 = .ok (.dup2, 1) := by decide +kernel
theorem dX1_remove_40 : decode cX1_remove 40 = .ok (.iaload, 1) := by decide +kernel
theorem dX1_remove_41 : decode cX1_remove 41 = .ok (.iconst 1, 1) := by decide +kernel
theorem dX1_remove_42 : decode cX1_remove 42 = .ok (.isub, 1) := by decide +kernel
theorem dX1_remove_43 : decode cX1_remove 43 = .ok (.iastore, 1) := by decide +kernel
theorem dX1_remove_44 : decode cX1_remove 44 = .ok (.aload_n 0, 1) := by decide +kernel
theorem dX1_remove_45 : decode cX1_remove 45 = .ok (.getfield 7, 3) := by decide +kernel
theorem dX1_remove_48 : decode cX1_remove 48 = .ok (.iload_n 3, 1) := by decide +kernel
theorem dX1_remove_49 : decode cX1_remove 49 = .ok (.iaload, 1) := by decide +kernel
theorem dX1_remove_50 : decode cX1_remove 50 = .ok (.ireturn, 1) := by decide +kernel
abbrev cX1_maybe : ByteArray := prog_3_method_5_code
def yX1_maybe : MethodName := ⟨RX1, "maybe", "(II)Z"⟩
theorem dX1_maybe_0 : decode cX1_maybe 0 = .ok (.aload_n 0, 1) := by decide +kernel
theorem dX1_maybe_1 : decode cX1_maybe 1 = .ok (.iload_n 1, 1) := by decide +kernel
theorem dX1_maybe_2 : decode cX1_maybe 2 = .ok (.invokevirtual 16, 3) := by decide +kernel
theorem dX1_maybe_5 : decode cX1_maybe 5 = .ok (.ifCond .ne 5, 3) := by decide +kernel
theorem dX1_maybe_8 : decode cX1_maybe 8 = .ok (.iconst 0, 1) := by decide +kernel
theorem dX1_maybe_9 : decode cX1_maybe 9 = .ok (.ireturn, 1) := by decide +kernel
theorem dX1_maybe_10 : decode cX1_maybe 10 = .ok (.sipush 256, 3) := by decide +kernel
theorem dX1_maybe_13 : decode cX1_maybe 13 = .ok (.iload_n 1, 1) := by decide +kernel
theorem dX1_maybe_14 : decode cX1_maybe 14 = .ok (.imul, 1) := by decide +kernel
theorem dX1_maybe_15 : decode cX1_maybe 15 = .ok (.aload_n 0, 1) := by decide +kernel
theorem dX1_maybe_16 : decode cX1_maybe 16 = .ok (.iload_n 2, 1) := by decide +kernel
theorem dX1_maybe_17 : decode cX1_maybe 17 = .ok (.invokevirtual 24, 3) := by decide +kernel
theorem dX1_maybe_20 : decode cX1_maybe 20 = .ok (.iadd, 1) := by decide +kernel
theorem dX1_maybe_21 : decode cX1_maybe 21 = .ok (.istore_n 3, 1) := by decide +kernel
theorem dX1_maybe_22 : decode cX1_maybe 22 = .ok (.aload_n 0, 1) := by decide +kernel
theorem dX1_maybe_23 : decode cX1_maybe 23 = .ok (.getfield 7, 3) := by decide +kernel
theorem dX1_maybe_26 : decode cX1_maybe 26 = .ok (.iload_n 3, 1) := by decide +kernel
theorem dX1_maybe_27 : decode cX1_maybe 27 = .ok (.iaload, 1) := by decide +kernel
theorem dX1_maybe_28 : decode cX1_maybe 28 = .ok (.ifCond .le 7, 3) := by decide +kernel
theorem dX1_maybe_31 : decode cX1_maybe 31 = .ok (.iconst 1, 1) := by decide +kernel
theorem dX1_maybe_32 : decode cX1_maybe 32 = .ok (.goto 4, 3) := by decide +kernel
theorem dX1_maybe_35 : decode cX1_maybe 35 = .ok (.iconst 0, 1) := by decide +kernel
theorem dX1_maybe_36 : decode cX1_maybe 36 = .ok (.ireturn, 1) := by decide +kernel
abbrev cX1_times : ByteArray := prog_3_method_6_code
def yX1_times : MethodName := ⟨RX1, "times", "(II)I"⟩
theorem dX1_times_0 : decode cX1_times 0 = .ok (.aload_n 0, 1) := by decide +kernel
theorem dX1_times_1 : decode cX1_times 1 = .ok (.iload_n 1, 1) := by decide +kernel
theorem dX1_times_2 : decode cX1_times 2 = .ok (.invokevirtual 16, 3) := by decide +kernel
theorem dX1_times_5 : decode cX1_times 5 = .ok (.ifCond .eq 29, 3) := by decide +kernel
theorem dX1_times_8 : decode cX1_times 8 = .ok (.iload_n 2, 1) := by decide +kernel
theorem dX1_times_9 : decode cX1_times 9 = .ok (.ifCond .lt 25, 3) := by decide +kernel
theorem dX1_times_12 : decode cX1_times 12 = .ok (.iload_n 2, 1) := by decide +kernel
theorem dX1_times_13 : decode cX1_times 13 = .ok (.sipush 255, 3) := by decide +kernel
theorem dX1_times_16 : decode cX1_times 16 = .ok (.if_icmp .gt 18, 3) := by decide +kernel
theorem dX1_times_19 : decode cX1_times 19 = .ok (.aload_n 0, 1) := by decide +kernel
theorem dX1_times_20 : decode cX1_times 20 = .ok (.getfield 7, 3) := by decide +kernel
theorem dX1_times_23 : decode cX1_times 23 = .ok (.sipush 256, 3) := by decide +kernel
theorem dX1_times_26 : decode cX1_times 26 = .ok (.iload_n 1, 1) := by decide +kernel
theorem dX1_times_27 : decode cX1_times 27 = .ok (.imul, 1) := by decide +kernel
theorem dX1_times_28 : decode cX1_times 28 = .ok (.iload_n 2, 1) := by decide +kernel
theorem dX1_times_29 : decode cX1_times 29 = .ok (.iadd, 1) := by decide +kernel
theorem dX1_times_30 : decode cX1_times 30 = .ok (.iaload, 1) := by decide +kernel
theorem dX1_times_31 : decode cX1_times 31 = .ok (.goto 4, 3) := by decide +kernel
theorem dX1_times_34 : decode cX1_times 34 = .ok (.iconst (-1), 1) := by decide +kernel
theorem dX1_times_35 : decode cX1_times 35 = .ok (.ireturn, 1) := by decide +kernel
abbrev cX1_size : ByteArray := prog_3_method_8_code
def yX1_size : MethodName := ⟨RX1, "size", "(I)I"⟩
theorem dX1_size_0 : decode cX1_size 0 = .ok (.aload_n 0, 1) := by decide +kernel
theorem dX1_size_1 : decode cX1_size 1 = .ok (.iload_n 1, 1) := by decide +kernel
theorem dX1_size_2 : decode cX1_size 2 = .ok (.invokevirtual 16, 3) := by decide +kernel
theorem dX1_size_5 : decode cX1_size 5 = .ok (.ifCond .eq 12, 3) := by decide +kernel
theorem dX1_size_8 : decode cX1_size 8 = .ok (.aload_n 0, 1) := by decide +kernel
theorem dX1_size_9 : decode cX1_size 9 = .ok (.getfield 13, 3) := by decide +kernel
theorem dX1_size_12 : decode cX1_size 12 = .ok (.iload_n 1, 1) := by decide +kernel
theorem dX1_size_13 : decode cX1_size 13 = .ok (.iaload, 1) := by decide +kernel
theorem dX1_size_14 : decode cX1_size 14 = .ok (.goto 4, 3) := by decide +kernel
theorem dX1_size_17 : decode cX1_size 17 = .ok (.iconst (-1), 1) := by decide +kernel
theorem dX1_size_18 : decode cX1_size 18 = .ok (.ireturn, 1) := by decide +kernel
abbrev cX1_print : ByteArray := prog_3_method_9_code
def yX1_print : MethodName := ⟨RX1, "print", "(II)I"⟩
theorem dX1_print_0 : decode cX1_print 0 = .ok (.aload_n 0, 1) := by decide +kernel
theorem dX1_print_1 : decode cX1_print 1 = .ok (.iload_n 1, 1) := by decide +kernel
theorem dX1_print_2 : decode cX1_print 2 = .ok (.invokevirtual 16, 3) := by decide +kernel
theorem dX1_print_5 : decode cX1_print 5 = .ok (.ifCond .ne 5, 3) := by decide +kernel
theorem dX1_print_8 : decode cX1_print 8 = .ok (.iconst (-1), 1) := by decide +kernel
theorem dX1_print_9 : decode cX1_print 9 = .ok (.ireturn, 1) := by decide +kernel
theorem dX1_print_10 : decode cX1_print 10 = .ok (.iconst 0, 1) := by decide +kernel
theorem dX1_print_11 : decode cX1_print 11 = .ok (.istore_n 3, 1) := by decide +kernel
theorem dX1_print_12 : decode cX1_print 12 = .ok (.iconst 0, 1) := by decide +kernel
theorem dX1_print_13 : decode cX1_print 13 = .ok (.istore 4, 2) := by decide +kernel
theorem dX1_print_15 : decode cX1_print 15 = .ok (.iload 4, 2) := by decide +kernel
theorem dX1_print_17 : decode cX1_print 17 = .ok (.sipush 256, 3) := by decide +kernel
theorem dX1_print_20 : decode cX1_print 20 = .ok (.if_icmp .ge 37, 3) := by decide +kernel
theorem dX1_print_23 : decode cX1_print 23 = .ok (.iload_n 3, 1) := by decide +kernel
theorem dX1_print_24 : decode cX1_print 24 = .ok (.aload_n 0, 1) := by decide +kernel
theorem dX1_print_25 : decode cX1_print 25 = .ok (.getfield 7, 3) := by decide +kernel
theorem dX1_print_28 : decode cX1_print 28 = .ok (.sipush 256, 3) := by decide +kernel
theorem dX1_print_31 : decode cX1_print 31 = .ok (.iload_n 1, 1) := by decide +kernel
theorem dX1_print_32 : decode cX1_print 32 = .ok (.imul, 1) := by decide +kernel
theorem dX1_print_33 : decode cX1_print 33 = .ok (.iload 4, 2) := by decide +kernel
theorem dX1_print_35 : decode cX1_print 35 = .ok (.iadd, 1) := by decide +kernel
theorem dX1_print_36 : decode cX1_print 36 = .ok (.iaload, 1) := by decide +kernel
theorem dX1_print_37 : decode cX1_print 37 = .ok (.iadd, 1) := by decide +kernel
theorem dX1_print_38 : decode cX1_print 38 = .ok (.istore_n 3, 1) := by decide +kernel
theorem dX1_print_39 : decode cX1_print 39 = .ok (.iload_n 2, 1) := by decide +kernel
theorem dX1_print_40 : decode cX1_print 40 = .ok (.ifCond .lt 11, 3) := by decide +kernel
theorem dX1_print_43 : decode cX1_print 43 = .ok (.iload_n 2, 1) := by decide +kernel
theorem dX1_print_44 : decode cX1_print 44 = .ok (.iload_n 3, 1) := by decide +kernel
theorem dX1_print_45 : decode cX1_print 45 = .ok (.if_icmp .ge 6, 3) := by decide +kernel
theorem dX1_print_48 : decode cX1_print 48 = .ok (.iload 4, 2) := by decide +kernel
theorem dX1_print_50 : decode cX1_print 50 = .ok (.ireturn, 1) := by decide +kernel
theorem dX1_print_51 : decode cX1_print 51 = .ok (.iinc 4 1, 3) := by decide +kernel
theorem dX1_print_54 : decode cX1_print 54 = .ok (.goto (-39), 3) := by decide +kernel
theorem dX1_print_57 : decode cX1_print 57 = .ok (.bipush (-3), 2) := by decide +kernel
theorem dX1_print_59 : decode cX1_print 59 = .ok (.ireturn, 1) := by decide +kernel
abbrev cX1_grow : ByteArray := prog_3_method_10_code
def yX1_grow : MethodName := ⟨RX1, "grow", "(I)I"⟩
theorem dX1_grow_0 : decode cX1_grow 0 = .ok (.aload_n 0, 1) := by decide +kernel
theorem dX1_grow_1 : decode cX1_grow 1 = .ok (.iload_n 1, 1) := by decide +kernel
theorem dX1_grow_2 : decode cX1_grow 2 = .ok (.invokevirtual 16, 3) := by decide +kernel
theorem dX1_grow_5 : decode cX1_grow 5 = .ok (.ifCond .ne 5, 3) := by decide +kernel
theorem dX1_grow_8 : decode cX1_grow 8 = .ok (.iconst (-1), 1) := by decide +kernel
theorem dX1_grow_9 : decode cX1_grow 9 = .ok (.ireturn, 1) := by decide +kernel
theorem dX1_grow_10 : decode cX1_grow 10 = .ok (.aload_n 0, 1) := by decide +kernel
theorem dX1_grow_11 : decode cX1_grow 11 = .ok (.getfield 13, 3) := by decide +kernel
theorem dX1_grow_14 : decode cX1_grow 14 = .ok (.iload_n 1, 1) := by decide +kernel
theorem dX1_grow_15 : decode cX1_grow 15 = .ok (.iaload, 1) := by decide +kernel
theorem dX1_grow_16 : decode cX1_grow 16 = .ok (.bipush 64, 2) := by decide +kernel
theorem dX1_grow_18 : decode cX1_grow 18 = .ok (.if_icmp .ne 6, 3) := by decide +kernel
theorem dX1_grow_21 : decode cX1_grow 21 = .ok (.bipush (-2), 2) := by decide +kernel
theorem dX1_grow_23 : decode cX1_grow 23 = .ok (.ireturn, 1) := by decide +kernel
theorem dX1_grow_24 : decode cX1_grow 24 = .ok (.aload_n 0, 1) := by decide +kernel
theorem dX1_grow_25 : decode cX1_grow 25 = .ok (.getfield 13, 3) := by decide +kernel
theorem dX1_grow_28 : decode cX1_grow 28 = .ok (.iload_n 1, 1) := by decide +kernel
theorem dX1_grow_29 : decode cX1_grow 29 = .ok (.iconst 2, 1) := by decide +kernel
theorem dX1_grow_30 : decode cX1_grow 30 = .ok (.aload_n 0, 1) := by decide +kernel
theorem dX1_grow_31 : decode cX1_grow 31 = .ok (.getfield 13, 3) := by decide +kernel
theorem dX1_grow_34 : decode cX1_grow 34 = .ok (.iload_n 1, 1) := by decide +kernel
theorem dX1_grow_35 : decode cX1_grow 35 = .ok (.iaload, 1) := by decide +kernel
theorem dX1_grow_36 : decode cX1_grow 36 = .ok (.imul, 1) := by decide +kernel
theorem dX1_grow_37 : decode cX1_grow 37 = .ok (.iastore, 1) := by decide +kernel
theorem dX1_grow_38 : decode cX1_grow 38 = .ok (.aload_n 0, 1) := by decide +kernel
theorem dX1_grow_39 : decode cX1_grow 39 = .ok (.getfield 13, 3) := by decide +kernel
theorem dX1_grow_42 : decode cX1_grow 42 = .ok (.iload_n 1, 1) := by decide +kernel
theorem dX1_grow_43 : decode cX1_grow 43 = .ok (.iaload, 1) := by decide +kernel
theorem dX1_grow_44 : decode cX1_grow 44 = .ok (.ireturn, 1) := by decide +kernel
abbrev cX1_shrink : ByteArray := prog_3_method_11_code
def yX1_shrink : MethodName := ⟨RX1, "shrink", "(I)I"⟩
theorem dX1_shrink_0 : decode cX1_shrink 0 = .ok (.aload_n 0, 1) := by decide +kernel
theorem dX1_shrink_1 : decode cX1_shrink 1 = .ok (.iload_n 1, 1) := by decide +kernel
theorem dX1_shrink_2 : decode cX1_shrink 2 = .ok (.invokevirtual 16, 3) := by decide +kernel
theorem dX1_shrink_5 : decode cX1_shrink 5 = .ok (.ifCond .ne 5, 3) := by decide +kernel
theorem dX1_shrink_8 : decode cX1_shrink 8 = .ok (.iconst (-1), 1) := by decide +kernel
theorem dX1_shrink_9 : decode cX1_shrink 9 = .ok (.ireturn, 1) := by decide +kernel
theorem dX1_shrink_10 : decode cX1_shrink 10 = .ok (.aload_n 0, 1) := by decide +kernel
theorem dX1_shrink_11 : decode cX1_shrink 11 = .ok (.getfield 13, 3) := by decide +kernel
theorem dX1_shrink_14 : decode cX1_shrink 14 = .ok (.iload_n 1, 1) := by decide +kernel
theorem dX1_shrink_15 : decode cX1_shrink 15 = .ok (.iaload, 1) := by decide +kernel
theorem dX1_shrink_16 : decode cX1_shrink 16 = .ok (.bipush 8, 2) := by decide +kernel
theorem dX1_shrink_18 : decode cX1_shrink 18 = .ok (.if_icmp .eq 21, 3) := by decide +kernel
theorem dX1_shrink_21 : decode cX1_shrink 21 = .ok (.aload_n 0, 1) := by decide +kernel
theorem dX1_shrink_22 : decode cX1_shrink 22 = .ok (.iload_n 1, 1) := by decide +kernel
theorem dX1_shrink_23 : decode cX1_shrink 23 = .ok (.invokevirtual 20, 3) := by decide +kernel
theorem dX1_shrink_26 : decode cX1_shrink 26 = .ok (.aload_n 0, 1) := by decide +kernel
theorem dX1_shrink_27 : decode cX1_shrink 27 = .ok (.getfield 13, 3) := by decide +kernel
theorem dX1_shrink_30 : decode cX1_shrink 30 = .ok (.iload_n 1, 1) := by decide +kernel
theorem dX1_shrink_31 : decode cX1_shrink 31 = .ok (.iaload, 1) := by decide +kernel
theorem dX1_shrink_32 : decode cX1_shrink 32 = .ok (.iconst 2, 1) := by decide +kernel
theorem dX1_shrink_33 : decode cX1_shrink 33 = .ok (.idiv, 1) := by decide +kernel
theorem dX1_shrink_34 : decode cX1_shrink 34 = .ok (.iconst 1, 1) := by decide +kernel
theorem dX1_shrink_35 : decode cX1_shrink 35 = .ok (.isub, 1) := by decide +kernel
theorem dX1_shrink_36 : decode cX1_shrink 36 = .ok (.if_icmp .le 6, 3) := by decide +kernel
theorem dX1_shrink_39 : decode cX1_shrink 39 = .ok (.bipush (-3), 2) := by decide +kernel
theorem dX1_shrink_41 : decode cX1_shrink 41 = .ok (.ireturn, 1) := by decide +kernel
theorem dX1_shrink_42 : decode cX1_shrink 42 = .ok (.aload_n 0, 1) := by decide +kernel
theorem dX1_shrink_43 : decode cX1_shrink 43 = .ok (.getfield 13, 3) := by decide +kernel
theorem dX1_shrink_46 : decode cX1_shrink 46 = .ok (.iload_n 1, 1) := by decide +kernel
theorem dX1_shrink_47 : decode cX1_shrink 47 = .ok (.aload_n 0, 1) := by decide +kernel
theorem dX1_shrink_48 : decode cX1_shrink 48 = .ok (.getfield 13, 3) := by decide +kernel
theorem dX1_shrink_51 : decode cX1_shrink 51 = .ok (.iload_n 1, 1) := by decide +kernel
theorem dX1_shrink_52 : decode cX1_shrink 52 = .ok (.iaload, 1) := by decide +kernel
theorem dX1_shrink_53 : decode cX1_shrink 53 = .ok (.iconst 2, 1) := by decide +kernel
theorem dX1_shrink_54 : decode cX1_shrink 54 = .ok (.idiv, 1) := by decide +kernel
theorem dX1_shrink_55 : decode cX1_shrink 55 = .ok (.iastore, 1) := by decide +kernel
theorem dX1_shrink_56 : decode cX1_shrink 56 = .ok (.aload_n 0, 1) := by decide +kernel
theorem dX1_shrink_57 : decode cX1_shrink 57 = .ok (.getfield 13, 3) := by decide +kernel
theorem dX1_shrink_60 : decode cX1_shrink 60 = .ok (.iload_n 1, 1) := by decide +kernel
theorem dX1_shrink_61 : decode cX1_shrink 61 = .ok (.iaload, 1) := by decide +kernel
theorem dX1_shrink_62 : decode cX1_shrink 62 = .ok (.ireturn, 1) := by decide +kernel
abbrev cX1_pour : ByteArray := prog_3_method_12_code
def yX1_pour : MethodName := ⟨RX1, "pour", "(I)I"⟩
theorem dX1_pour_0 : decode cX1_pour 0 = .ok (.aload_n 0, 1) := by decide +kernel
theorem dX1_pour_1 : decode cX1_pour 1 = .ok (.iload_n 1, 1) := by decide +kernel
theorem dX1_pour_2 : decode cX1_pour 2 = .ok (.invokevirtual 16, 3) := by decide +kernel
theorem dX1_pour_5 : decode cX1_pour 5 = .ok (.ifCond .ne 5, 3) := by decide +kernel
theorem dX1_pour_8 : decode cX1_pour 8 = .ok (.iconst (-1), 1) := by decide +kernel
theorem dX1_pour_9 : decode cX1_pour 9 = .ok (.ireturn, 1) := by decide +kernel
theorem dX1_pour_10 : decode cX1_pour 10 = .ok (.aload_n 0, 1) := by decide +kernel
theorem dX1_pour_11 : decode cX1_pour 11 = .ok (.iconst 0, 1) := by decide +kernel
theorem dX1_pour_12 : decode cX1_pour 12 = .ok (.invokevirtual 20, 3) := by decide +kernel
theorem dX1_pour_15 : decode cX1_pour 15 = .ok (.aload_n 0, 1) := by decide +kernel
theorem dX1_pour_16 : decode cX1_pour 16 = .ok (.iconst 1, 1) := by decide +kernel
theorem dX1_pour_17 : decode cX1_pour 17 = .ok (.invokevirtual 20, 3) := by decide +kernel
theorem dX1_pour_20 : decode cX1_pour 20 = .ok (.iadd, 1) := by decide +kernel
theorem dX1_pour_21 : decode cX1_pour 21 = .ok (.istore_n 2, 1) := by decide +kernel
theorem dX1_pour_22 : decode cX1_pour 22 = .ok (.iload_n 2, 1) := by decide +kernel
theorem dX1_pour_23 : decode cX1_pour 23 = .ok (.bipush 63, 2) := by decide +kernel
theorem dX1_pour_25 : decode cX1_pour 25 = .ok (.if_icmp .le 6, 3) := by decide +kernel
theorem dX1_pour_28 : decode cX1_pour 28 = .ok (.bipush (-2), 2) := by decide +kernel
theorem dX1_pour_30 : decode cX1_pour 30 = .ok (.ireturn, 1) := by decide +kernel
theorem dX1_pour_31 : decode cX1_pour 31 = .ok (.iconst 0, 1) := by decide +kernel
theorem dX1_pour_32 : decode cX1_pour 32 = .ok (.istore_n 3, 1) := by decide +kernel
theorem dX1_pour_33 : decode cX1_pour 33 = .ok (.iload_n 3, 1) := by decide +kernel
theorem dX1_pour_34 : decode cX1_pour 34 = .ok (.iconst 3, 1) := by decide +kernel
theorem dX1_pour_35 : decode cX1_pour 35 = .ok (.if_icmp .ge 35, 3) := by decide +kernel
theorem dX1_pour_38 : decode cX1_pour 38 = .ok (.aload_n 0, 1) := by decide +kernel
theorem dX1_pour_39 : decode cX1_pour 39 = .ok (.getfield 13, 3) := by decide +kernel
theorem dX1_pour_42 : decode cX1_pour 42 = .ok (.iload_n 1, 1) := by decide +kernel
theorem dX1_pour_43 : decode cX1_pour 43 = .ok (.iaload, 1) := by decide +kernel
theorem dX1_pour_44 : decode cX1_pour 44 = .ok (.iload_n 2, 1) := by decide +kernel
theorem dX1_pour_45 : decode cX1_pour 45 = .ok (.iconst 1, 1) := by decide +kernel
theorem dX1_pour_46 : decode cX1_pour 46 = .ok (.iadd, 1) := by decide +kernel
theorem dX1_pour_47 : decode cX1_pour 47 = .ok (.if_icmp .ge 17, 3) := by decide +kernel
theorem dX1_pour_50 : decode cX1_pour 50 = .ok (.aload_n 0, 1) := by decide +kernel
theorem dX1_pour_51 : decode cX1_pour 51 = .ok (.getfield 13, 3) := by decide +kernel
theorem dX1_pour_54 : decode cX1_pour 54 = .ok (.iload_n 1, 1) := by decide +kernel
theorem dX1_pour_55 : decode cX1_pour 55 = .ok (.iconst 2, 1) := by decide +kernel
theorem dX1_pour_56 : decode cX1_pour 56 = .ok (.aload_n 0, 1) := by decide +kernel
theorem dX1_pour_57 : decode cX1_pour 57 = .ok (.getfield 13, 3) := by decide +kernel
theorem dX1_pour_60 : decode cX1_pour 60 = .ok (.iload_n 1, 1) := by decide +kernel
theorem dX1_pour_61 : decode cX1_pour 61 = .ok (.iaload, 1) := by decide +kernel
theorem dX1_pour_62 : decode cX1_pour 62 = .ok (.imul, 1) := by decide +kernel
theorem dX1_pour_63 : decode cX1_pour 63 = .ok (.iastore, 1) := by decide +kernel
theorem dX1_pour_64 : decode cX1_pour 64 = .ok (.iinc 3 1, 3) := by decide +kernel
theorem dX1_pour_67 : decode cX1_pour 67 = .ok (.goto (-34), 3) := by decide +kernel
theorem dX1_pour_70 : decode cX1_pour 70 = .ok (.iconst 0, 1) := by decide +kernel
theorem dX1_pour_71 : decode cX1_pour 71 = .ok (.istore_n 3, 1) := by decide +kernel
theorem dX1_pour_72 : decode cX1_pour 72 = .ok (.iload_n 3, 1) := by decide +kernel
theorem dX1_pour_73 : decode cX1_pour 73 = .ok (.sipush 256, 3) := by decide +kernel
theorem dX1_pour_76 : decode cX1_pour 76 = .ok (.if_icmp .ge 38, 3) := by decide +kernel
theorem dX1_pour_79 : decode cX1_pour 79 = .ok (.aload_n 0, 1) := by decide +kernel
theorem dX1_pour_80 : decode cX1_pour 80 = .ok (.getfield 7, 3) := by decide +kernel
theorem dX1_pour_83 : decode cX1_pour 83 = .ok (.sipush 256, 3) := by decide +kernel
theorem dX1_pour_86 : decode cX1_pour 86 = .ok (.iload_n 1, 1) := by decide +kernel
theorem dX1_pour_87 : decode cX1_pour 87 = .ok (.imul, 1) := by decide +kernel
theorem dX1_pour_88 : decode cX1_pour 88 = .ok (.iload_n 3, 1) := by decide +kernel
theorem dX1_pour_89 : decode cX1_pour 89 = .ok (.iadd, 1) := by decide +kernel
theorem dX1_pour_90 : decode cX1_pour 90 = .ok (.dup2, 1) := by decide +kernel
theorem dX1_pour_91 : decode cX1_pour 91 = .ok (.iaload, 1) := by decide +kernel
theorem dX1_pour_92 : decode cX1_pour 92 = .ok (.aload_n 0, 1) := by decide +kernel
theorem dX1_pour_93 : decode cX1_pour 93 = .ok (.getfield 7, 3) := by decide +kernel
theorem dX1_pour_96 : decode cX1_pour 96 = .ok (.sipush 256, 3) := by decide +kernel
theorem dX1_pour_99 : decode cX1_pour 99 = .ok (.iconst 1, 1) := by decide +kernel
theorem dX1_pour_100 : decode cX1_pour 100 = .ok (.iload_n 1, 1) := by decide +kernel
theorem dX1_pour_101 : decode cX1_pour 101 = .ok (.isub, 1) := by decide +kernel
theorem dX1_pour_102 : decode cX1_pour 102 = .ok (.imul, 1) := by decide +kernel
theorem dX1_pour_103 : decode cX1_pour 103 = .ok (.iload_n 3, 1) := by decide +kernel
theorem dX1_pour_104 : decode cX1_pour 104 = .ok (.iadd, 1) := by decide +kernel
theorem dX1_pour_105 : decode cX1_pour 105 = .ok (.iaload, 1) := by decide +kernel
theorem dX1_pour_106 : decode cX1_pour 106 = .ok (.iadd, 1) := by decide +kernel
theorem dX1_pour_107 : decode cX1_pour 107 = .ok (.iastore, 1) := by decide +kernel
theorem dX1_pour_108 : decode cX1_pour 108 = .ok (.iinc 3 1, 3) := by decide +kernel
theorem dX1_pour_111 : decode cX1_pour 111 = .ok (.goto (-39), 3) := by decide +kernel
theorem dX1_pour_114 : decode cX1_pour 114 = .ok (.iload_n 2, 1) := by decide +kernel
theorem dX1_pour_115 : decode cX1_pour 115 = .ok (.ireturn, 1) := by decide +kernel
abbrev cX1_clear : ByteArray := prog_3_method_13_code
def yX1_clear : MethodName := ⟨RX1, "clear", "(I)I"⟩
theorem dX1_clear_0 : decode cX1_clear 0 = .ok (.aload_n 0, 1) := by decide +kernel
theorem dX1_clear_1 : decode cX1_clear 1 = .ok (.iload_n 1, 1) := by decide +kernel
theorem dX1_clear_2 : decode cX1_clear 2 = .ok (.invokevirtual 16, 3) := by decide +kernel
theorem dX1_clear_5 : decode cX1_clear 5 = .ok (.ifCond .ne 5, 3) := by decide +kernel
theorem dX1_clear_8 : decode cX1_clear 8 = .ok (.iconst (-1), 1) := by decide +kernel
theorem dX1_clear_9 : decode cX1_clear 9 = .ok (.ireturn, 1) := by decide +kernel
theorem dX1_clear_10 : decode cX1_clear 10 = .ok (.aload_n 0, 1) := by decide +kernel
theorem dX1_clear_11 : decode cX1_clear 11 = .ok (.iload_n 1, 1) := by decide +kernel
theorem dX1_clear_12 : decode cX1_clear 12 = .ok (.invokevirtual 20, 3) := by decide +kernel
theorem dX1_clear_15 : decode cX1_clear 15 = .ok (.istore_n 2, 1) := by decide +kernel
theorem dX1_clear_16 : decode cX1_clear 16 = .ok (.iconst 0, 1) := by decide +kernel
theorem dX1_clear_17 : decode cX1_clear 17 = .ok (.istore_n 3, 1) := by decide +kernel
theorem dX1_clear_18 : decode cX1_clear 18 = .ok (.iload_n 3, 1) := by decide +kernel
theorem dX1_clear_19 : decode cX1_clear 19 = .ok (.sipush 256, 3) := by decide +kernel
theorem dX1_clear_22 : decode cX1_clear 22 = .ok (.if_icmp .ge 22, 3) := by decide +kernel
theorem dX1_clear_25 : decode cX1_clear 25 = .ok (.aload_n 0, 1) := by decide +kernel
theorem dX1_clear_26 : decode cX1_clear 26 = .ok (.getfield 7, 3) := by decide +kernel
theorem dX1_clear_29 : decode cX1_clear 29 = .ok (.sipush 256, 3) := by decide +kernel
theorem dX1_clear_32 : decode cX1_clear 32 = .ok (.iload_n 1, 1) := by decide +kernel
theorem dX1_clear_33 : decode cX1_clear 33 = .ok (.imul, 1) := by decide +kernel
theorem dX1_clear_34 : decode cX1_clear 34 = .ok (.iload_n 3, 1) := by decide +kernel
theorem dX1_clear_35 : decode cX1_clear 35 = .ok (.iadd, 1) := by decide +kernel
theorem dX1_clear_36 : decode cX1_clear 36 = .ok (.iconst 0, 1) := by decide +kernel
theorem dX1_clear_37 : decode cX1_clear 37 = .ok (.iastore, 1) := by decide +kernel
theorem dX1_clear_38 : decode cX1_clear 38 = .ok (.iinc 3 1, 3) := by decide +kernel
theorem dX1_clear_41 : decode cX1_clear 41 = .ok (.goto (-23), 3) := by decide +kernel
theorem dX1_clear_44 : decode cX1_clear 44 = .ok (.iload_n 2, 1) := by decide +kernel
theorem dX1_clear_45 : decode cX1_clear 45 = .ok (.ireturn, 1) := by decide +kernel
theorem q22 : (Jvm.Cond.initialized "QuotientFilterModel") ∈ lw_all := lw_g (lw_at lw_m0 2 rfl) rfl
theorem q186 : (Jvm.Cond.instantiable "QuotientFilterModel" (2 : Nat)) ∈ lw_all := lw_g (lw_at lw_m0 166 rfl) rfl
theorem q188 : (Jvm.Cond.instanceMethod ({ cls := "QuotientFilterModel", name := "<init>", desc := "()V" } : Jvm.MethodName)) ∈ lw_all := lw_g (lw_at lw_m0 168 rfl) rfl
theorem q189 : (Jvm.Cond.code ({ cls := "QuotientFilterModel", name := "<init>", desc := "()V" } : Jvm.MethodName) prog_3_method_1_code (1 : Nat) (Option.none : Option Jvm.ClassFile.FieldType)) ∈ lw_all := lw_g (lw_at lw_m0 169 rfl) rfl
theorem q190 : (Jvm.Cond.methodLink "QuotientFilterModel" (1 : Nat) ({ cls := "java/lang/Object", name := "<init>", desc := "()V" } : Jvm.MethodName)) ∈ lw_all := lw_g (lw_at lw_m0 170 rfl) rfl
theorem q191 : (Jvm.Cond.fieldLink "QuotientFilterModel" (7 : Nat) "QuotientFilterModel" "often" "[I") ∈ lw_all := lw_g (lw_at lw_m0 171 rfl) rfl
theorem q192 : (Jvm.Cond.fieldLink "QuotientFilterModel" (13 : Nat) "QuotientFilterModel" "sizes" "[I") ∈ lw_all := lw_g (lw_at lw_m0 172 rfl) rfl
theorem q193 : (Jvm.Cond.lays "QuotientFilterModel" "QuotientFilterModel" "often" "[I") ∈ lw_all := lw_g (lw_at lw_m0 173 rfl) rfl
theorem q194 : (Jvm.Cond.soleField "QuotientFilterModel" "often") ∈ lw_all := lw_g (lw_at lw_m0 174 rfl) rfl
theorem q195 : (Jvm.Cond.lays "QuotientFilterModel" "QuotientFilterModel" "sizes" "[I") ∈ lw_all := lw_g (lw_at lw_m0 175 rfl) rfl
theorem q196 : (Jvm.Cond.soleField "QuotientFilterModel" "sizes") ∈ lw_all := lw_g (lw_at lw_m0 176 rfl) rfl
theorem q197 : (Jvm.Cond.superclass "QuotientFilterModel" "java/lang/Object") ∈ lw_all := lw_g (lw_at lw_m0 177 rfl) rfl
theorem q200 : (Jvm.Cond.instanceMethod ({ cls := "QuotientFilterModel", name := "add", desc := "(II)I" } : Jvm.MethodName)) ∈ lw_all := lw_g (lw_at lw_m0 180 rfl) rfl
theorem q201 : (Jvm.Cond.selects "QuotientFilterModel" ({ cls := "QuotientFilterModel", name := "add", desc := "(II)I" } : Jvm.MethodName) ({ cls := "QuotientFilterModel", name := "add", desc := "(II)I" } : Jvm.MethodName)) ∈ lw_all := lw_g (lw_at lw_m0 181 rfl) rfl
theorem q202 : (Jvm.Cond.code ({ cls := "QuotientFilterModel", name := "add", desc := "(II)I" } : Jvm.MethodName) prog_3_method_3_code (4 : Nat) (Option.some Jvm.ClassFile.FieldType.int)) ∈ lw_all := lw_g (lw_at lw_m0 182 rfl) rfl
theorem q203 : (Jvm.Cond.methodLink "QuotientFilterModel" (16 : Nat) ({ cls := "QuotientFilterModel", name := "isFilter", desc := "(I)Z" } : Jvm.MethodName)) ∈ lw_all := lw_g (lw_at lw_m0 183 rfl) rfl
theorem q204 : (Jvm.Cond.privateMethod ({ cls := "QuotientFilterModel", name := "isFilter", desc := "(I)Z" } : Jvm.MethodName)) ∈ lw_tbl := lw_at lw_m0 184 rfl
theorem q205 : (Jvm.Cond.instanceMethod ({ cls := "QuotientFilterModel", name := "isFilter", desc := "(I)Z" } : Jvm.MethodName)) ∈ lw_all := lw_g (lw_at lw_m0 185 rfl) rfl
theorem q206 : (Jvm.Cond.code ({ cls := "QuotientFilterModel", name := "isFilter", desc := "(I)Z" } : Jvm.MethodName) prog_3_method_2_code (2 : Nat) (Option.some Jvm.ClassFile.FieldType.boolean)) ∈ lw_all := lw_g (lw_at lw_m0 186 rfl) rfl
theorem q207 : (Jvm.Cond.methodLink "QuotientFilterModel" (20 : Nat) ({ cls := "QuotientFilterModel", name := "count", desc := "(I)I" } : Jvm.MethodName)) ∈ lw_all := lw_g (lw_at lw_m0 187 rfl) rfl
theorem q208 : (Jvm.Cond.instanceMethod ({ cls := "QuotientFilterModel", name := "count", desc := "(I)I" } : Jvm.MethodName)) ∈ lw_all := lw_g (lw_at lw_m0 188 rfl) rfl
theorem q209 : (Jvm.Cond.selects "QuotientFilterModel" ({ cls := "QuotientFilterModel", name := "count", desc := "(I)I" } : Jvm.MethodName) ({ cls := "QuotientFilterModel", name := "count", desc := "(I)I" } : Jvm.MethodName)) ∈ lw_all := lw_g (lw_at lw_m0 189 rfl) rfl
theorem q210 : (Jvm.Cond.code ({ cls := "QuotientFilterModel", name := "count", desc := "(I)I" } : Jvm.MethodName) prog_3_method_7_code (4 : Nat) (Option.some Jvm.ClassFile.FieldType.int)) ∈ lw_all := lw_g (lw_at lw_m0 190 rfl) rfl
theorem q211 : (Jvm.Cond.methodLink "QuotientFilterModel" (24 : Nat) ({ cls := "QuotientFilterModel", name := "printOf", desc := "(I)I" } : Jvm.MethodName)) ∈ lw_all := lw_g (lw_at lw_m0 191 rfl) rfl
theorem q212 : (Jvm.Cond.instanceMethod ({ cls := "QuotientFilterModel", name := "printOf", desc := "(I)I" } : Jvm.MethodName)) ∈ lw_all := lw_g (lw_at lw_m0 192 rfl) rfl
theorem q213 : (Jvm.Cond.selects "QuotientFilterModel" ({ cls := "QuotientFilterModel", name := "printOf", desc := "(I)I" } : Jvm.MethodName) ({ cls := "QuotientFilterModel", name := "printOf", desc := "(I)I" } : Jvm.MethodName)) ∈ lw_all := lw_g (lw_at lw_m0 193 rfl) rfl
theorem q214 : (Jvm.Cond.code ({ cls := "QuotientFilterModel", name := "printOf", desc := "(I)I" } : Jvm.MethodName) prog_3_method_14_code (2 : Nat) (Option.some Jvm.ClassFile.FieldType.int)) ∈ lw_all := lw_g (lw_at lw_m0 194 rfl) rfl
theorem q215 : (Jvm.Cond.constant "QuotientFilterModel" (27 : Nat) (-1640531535 : Int32)) ∈ lw_all := lw_g (lw_at lw_m0 195 rfl) rfl
theorem q217 : (Jvm.Cond.instanceMethod ({ cls := "QuotientFilterModel", name := "remove", desc := "(II)I" } : Jvm.MethodName)) ∈ lw_all := lw_g (lw_at lw_m0 197 rfl) rfl
theorem q218 : (Jvm.Cond.selects "QuotientFilterModel" ({ cls := "QuotientFilterModel", name := "remove", desc := "(II)I" } : Jvm.MethodName) ({ cls := "QuotientFilterModel", name := "remove", desc := "(II)I" } : Jvm.MethodName)) ∈ lw_all := lw_g (lw_at lw_m0 198 rfl) rfl
theorem q219 : (Jvm.Cond.code ({ cls := "QuotientFilterModel", name := "remove", desc := "(II)I" } : Jvm.MethodName) prog_3_method_4_code (4 : Nat) (Option.some Jvm.ClassFile.FieldType.int)) ∈ lw_all := lw_g (lw_at lw_m0 199 rfl) rfl
theorem q221 : (Jvm.Cond.instanceMethod ({ cls := "QuotientFilterModel", name := "maybe", desc := "(II)Z" } : Jvm.MethodName)) ∈ lw_all := lw_g (lw_at lw_m0 201 rfl) rfl
theorem q222 : (Jvm.Cond.selects "QuotientFilterModel" ({ cls := "QuotientFilterModel", name := "maybe", desc := "(II)Z" } : Jvm.MethodName) ({ cls := "QuotientFilterModel", name := "maybe", desc := "(II)Z" } : Jvm.MethodName)) ∈ lw_all := lw_g (lw_at lw_m0 202 rfl) rfl
theorem q223 : (Jvm.Cond.code ({ cls := "QuotientFilterModel", name := "maybe", desc := "(II)Z" } : Jvm.MethodName) prog_3_method_5_code (4 : Nat) (Option.some Jvm.ClassFile.FieldType.boolean)) ∈ lw_all := lw_g (lw_at lw_m0 203 rfl) rfl
theorem q225 : (Jvm.Cond.instanceMethod ({ cls := "QuotientFilterModel", name := "times", desc := "(II)I" } : Jvm.MethodName)) ∈ lw_all := lw_g (lw_at lw_m0 205 rfl) rfl
theorem q226 : (Jvm.Cond.selects "QuotientFilterModel" ({ cls := "QuotientFilterModel", name := "times", desc := "(II)I" } : Jvm.MethodName) ({ cls := "QuotientFilterModel", name := "times", desc := "(II)I" } : Jvm.MethodName)) ∈ lw_all := lw_g (lw_at lw_m0 206 rfl) rfl
theorem q227 : (Jvm.Cond.code ({ cls := "QuotientFilterModel", name := "times", desc := "(II)I" } : Jvm.MethodName) prog_3_method_6_code (3 : Nat) (Option.some Jvm.ClassFile.FieldType.int)) ∈ lw_all := lw_g (lw_at lw_m0 207 rfl) rfl
theorem q230 : (Jvm.Cond.instanceMethod ({ cls := "QuotientFilterModel", name := "size", desc := "(I)I" } : Jvm.MethodName)) ∈ lw_all := lw_g (lw_at lw_m0 210 rfl) rfl
theorem q231 : (Jvm.Cond.selects "QuotientFilterModel" ({ cls := "QuotientFilterModel", name := "size", desc := "(I)I" } : Jvm.MethodName) ({ cls := "QuotientFilterModel", name := "size", desc := "(I)I" } : Jvm.MethodName)) ∈ lw_all := lw_g (lw_at lw_m0 211 rfl) rfl
theorem q232 : (Jvm.Cond.code ({ cls := "QuotientFilterModel", name := "size", desc := "(I)I" } : Jvm.MethodName) prog_3_method_8_code (2 : Nat) (Option.some Jvm.ClassFile.FieldType.int)) ∈ lw_all := lw_g (lw_at lw_m0 212 rfl) rfl
theorem q234 : (Jvm.Cond.instanceMethod ({ cls := "QuotientFilterModel", name := "print", desc := "(II)I" } : Jvm.MethodName)) ∈ lw_all := lw_g (lw_at lw_m0 214 rfl) rfl
theorem q235 : (Jvm.Cond.selects "QuotientFilterModel" ({ cls := "QuotientFilterModel", name := "print", desc := "(II)I" } : Jvm.MethodName) ({ cls := "QuotientFilterModel", name := "print", desc := "(II)I" } : Jvm.MethodName)) ∈ lw_all := lw_g (lw_at lw_m0 215 rfl) rfl
theorem q236 : (Jvm.Cond.code ({ cls := "QuotientFilterModel", name := "print", desc := "(II)I" } : Jvm.MethodName) prog_3_method_9_code (5 : Nat) (Option.some Jvm.ClassFile.FieldType.int)) ∈ lw_all := lw_g (lw_at lw_m0 216 rfl) rfl
theorem q238 : (Jvm.Cond.instanceMethod ({ cls := "QuotientFilterModel", name := "grow", desc := "(I)I" } : Jvm.MethodName)) ∈ lw_all := lw_g (lw_at lw_m0 218 rfl) rfl
theorem q239 : (Jvm.Cond.selects "QuotientFilterModel" ({ cls := "QuotientFilterModel", name := "grow", desc := "(I)I" } : Jvm.MethodName) ({ cls := "QuotientFilterModel", name := "grow", desc := "(I)I" } : Jvm.MethodName)) ∈ lw_all := lw_g (lw_at lw_m0 219 rfl) rfl
theorem q240 : (Jvm.Cond.code ({ cls := "QuotientFilterModel", name := "grow", desc := "(I)I" } : Jvm.MethodName) prog_3_method_10_code (2 : Nat) (Option.some Jvm.ClassFile.FieldType.int)) ∈ lw_all := lw_g (lw_at lw_m0 220 rfl) rfl
theorem q242 : (Jvm.Cond.instanceMethod ({ cls := "QuotientFilterModel", name := "shrink", desc := "(I)I" } : Jvm.MethodName)) ∈ lw_all := lw_g (lw_at lw_m0 222 rfl) rfl
theorem q243 : (Jvm.Cond.selects "QuotientFilterModel" ({ cls := "QuotientFilterModel", name := "shrink", desc := "(I)I" } : Jvm.MethodName) ({ cls := "QuotientFilterModel", name := "shrink", desc := "(I)I" } : Jvm.MethodName)) ∈ lw_all := lw_g (lw_at lw_m0 223 rfl) rfl
theorem q244 : (Jvm.Cond.code ({ cls := "QuotientFilterModel", name := "shrink", desc := "(I)I" } : Jvm.MethodName) prog_3_method_11_code (2 : Nat) (Option.some Jvm.ClassFile.FieldType.int)) ∈ lw_all := lw_g (lw_at lw_m0 224 rfl) rfl
theorem q246 : (Jvm.Cond.instanceMethod ({ cls := "QuotientFilterModel", name := "pour", desc := "(I)I" } : Jvm.MethodName)) ∈ lw_all := lw_g (lw_at lw_m0 226 rfl) rfl
theorem q247 : (Jvm.Cond.selects "QuotientFilterModel" ({ cls := "QuotientFilterModel", name := "pour", desc := "(I)I" } : Jvm.MethodName) ({ cls := "QuotientFilterModel", name := "pour", desc := "(I)I" } : Jvm.MethodName)) ∈ lw_all := lw_g (lw_at lw_m0 227 rfl) rfl
theorem q248 : (Jvm.Cond.code ({ cls := "QuotientFilterModel", name := "pour", desc := "(I)I" } : Jvm.MethodName) prog_3_method_12_code (4 : Nat) (Option.some Jvm.ClassFile.FieldType.int)) ∈ lw_all := lw_g (lw_at lw_m0 228 rfl) rfl
theorem q250 : (Jvm.Cond.instanceMethod ({ cls := "QuotientFilterModel", name := "clear", desc := "(I)I" } : Jvm.MethodName)) ∈ lw_all := lw_g (lw_at lw_m0 230 rfl) rfl
theorem q251 : (Jvm.Cond.selects "QuotientFilterModel" ({ cls := "QuotientFilterModel", name := "clear", desc := "(I)I" } : Jvm.MethodName) ({ cls := "QuotientFilterModel", name := "clear", desc := "(I)I" } : Jvm.MethodName)) ∈ lw_all := lw_g (lw_at lw_m0 231 rfl) rfl
theorem q252 : (Jvm.Cond.code ({ cls := "QuotientFilterModel", name := "clear", desc := "(I)I" } : Jvm.MethodName) prog_3_method_13_code (4 : Nat) (Option.some Jvm.ClassFile.FieldType.int)) ∈ lw_all := lw_g (lw_at lw_m0 232 rfl) rfl
theorem in_X1 : ∀ w ∈ wsX10, w ∈ lw_all := lw_in wsX10 [193, 195] (by decide +kernel) (by decide +kernel)
end
section
/-! the law's own entry -/
set_option maxRecDepth 100000
abbrev cL_law : ByteArray := code
theorem dL_law_0 : decode cL_law 0 = .ok (.new 7, 3) := by decide +kernel
theorem dL_law_3 : decode cL_law 3 = .ok (.dup, 1) := by decide +kernel
theorem dL_law_4 : decode cL_law 4 = .ok (.invokespecial 9, 3) := by decide +kernel
theorem dL_law_7 : decode cL_law 7 = .ok (.astore_n 1, 1) := by decide +kernel
theorem dL_law_8 : decode cL_law 8 = .ok (.new 10, 3) := by decide +kernel
theorem dL_law_11 : decode cL_law 11 = .ok (.dup, 1) := by decide +kernel
theorem dL_law_12 : decode cL_law 12 = .ok (.invokespecial 12, 3) := by decide +kernel
theorem dL_law_15 : decode cL_law 15 = .ok (.astore_n 2, 1) := by decide +kernel
theorem dL_law_16 : decode cL_law 16 = .ok (.iconst 0, 1) := by decide +kernel
theorem dL_law_17 : decode cL_law 17 = .ok (.istore_n 3, 1) := by decide +kernel
theorem dL_law_18 : decode cL_law 18 = .ok (.iload_n 3, 1) := by decide +kernel
theorem dL_law_19 : decode cL_law 19 = .ok (.aload_n 0, 1) := by decide +kernel
theorem dL_law_20 : decode cL_law 20 = .ok (.arraylength, 1) := by decide +kernel
theorem dL_law_21 : decode cL_law 21 = .ok (.iconst 3, 1) := by decide +kernel
theorem dL_law_22 : decode cL_law 22 = .ok (.isub, 1) := by decide +kernel
theorem dL_law_23 : decode cL_law 23 = .ok (.if_icmp .gt 405, 3) := by decide +kernel
theorem dL_law_26 : decode cL_law 26 = .ok (.aload_n 0, 1) := by decide +kernel
theorem dL_law_27 : decode cL_law 27 = .ok (.iload_n 3, 1) := by decide +kernel
theorem dL_law_28 : decode cL_law 28 = .ok (.iaload, 1) := by decide +kernel
theorem dL_law_29 : decode cL_law 29 = .ok (.bipush 15, 2) := by decide +kernel
theorem dL_law_31 : decode cL_law 31 = .ok (.iand, 1) := by decide +kernel
theorem dL_law_32 : decode cL_law 32 = .ok (.tableswitch 390 0 11 #[64, 97, 130, 163, 196, 219, 242, 275, 298, 321, 344, 367], 64) := by decide +kernel
theorem dL_law_96 : decode cL_law 96 = .ok (.aload_n 1, 1) := by decide +kernel
theorem dL_law_97 : decode cL_law 97 = .ok (.aload_n 0, 1) := by decide +kernel
theorem dL_law_98 : decode cL_law 98 = .ok (.iload_n 3, 1) := by decide +kernel
theorem dL_law_99 : decode cL_law 99 = .ok (.iconst 1, 1) := by decide +kernel
theorem dL_law_100 : decode cL_law 100 = .ok (.iadd, 1) := by decide +kernel
theorem dL_law_101 : decode cL_law 101 = .ok (.iaload, 1) := by decide +kernel
theorem dL_law_102 : decode cL_law 102 = .ok (.aload_n 0, 1) := by decide +kernel
theorem dL_law_103 : decode cL_law 103 = .ok (.iload_n 3, 1) := by decide +kernel
theorem dL_law_104 : decode cL_law 104 = .ok (.iconst 2, 1) := by decide +kernel
theorem dL_law_105 : decode cL_law 105 = .ok (.iadd, 1) := by decide +kernel
theorem dL_law_106 : decode cL_law 106 = .ok (.iaload, 1) := by decide +kernel
theorem dL_law_107 : decode cL_law 107 = .ok (.invokevirtual 13, 3) := by decide +kernel
theorem dL_law_110 : decode cL_law 110 = .ok (.aload_n 2, 1) := by decide +kernel
theorem dL_law_111 : decode cL_law 111 = .ok (.aload_n 0, 1) := by decide +kernel
theorem dL_law_112 : decode cL_law 112 = .ok (.iload_n 3, 1) := by decide +kernel
theorem dL_law_113 : decode cL_law 113 = .ok (.iconst 1, 1) := by decide +kernel
theorem dL_law_114 : decode cL_law 114 = .ok (.iadd, 1) := by decide +kernel
theorem dL_law_115 : decode cL_law 115 = .ok (.iaload, 1) := by decide +kernel
theorem dL_law_116 : decode cL_law 116 = .ok (.aload_n 0, 1) := by decide +kernel
theorem dL_law_117 : decode cL_law 117 = .ok (.iload_n 3, 1) := by decide +kernel
theorem dL_law_118 : decode cL_law 118 = .ok (.iconst 2, 1) := by decide +kernel
theorem dL_law_119 : decode cL_law 119 = .ok (.iadd, 1) := by decide +kernel
theorem dL_law_120 : decode cL_law 120 = .ok (.iaload, 1) := by decide +kernel
theorem dL_law_121 : decode cL_law 121 = .ok (.invokevirtual 17, 3) := by decide +kernel
theorem dL_law_124 : decode cL_law 124 = .ok (.if_icmp .eq 298, 3) := by decide +kernel
theorem dL_law_127 : decode cL_law 127 = .ok (.iconst 0, 1) := by decide +kernel
theorem dL_law_128 : decode cL_law 128 = .ok (.ireturn, 1) := by decide +kernel
theorem dL_law_129 : decode cL_law 129 = .ok (.aload_n 1, 1) := by decide +kernel
theorem dL_law_130 : decode cL_law 130 = .ok (.aload_n 0, 1) := by decide +kernel
theorem dL_law_131 : decode cL_law 131 = .ok (.iload_n 3, 1) := by decide +kernel
theorem dL_law_132 : decode cL_law 132 = .ok (.iconst 1, 1) := by decide +kernel
theorem dL_law_133 : decode cL_law 133 = .ok (.iadd, 1) := by decide +kernel
theorem dL_law_134 : decode cL_law 134 = .ok (.iaload, 1) := by decide +kernel
theorem dL_law_135 : decode cL_law 135 = .ok (.aload_n 0, 1) := by decide +kernel
theorem dL_law_136 : decode cL_law 136 = .ok (.iload_n 3, 1) := by decide +kernel
theorem dL_law_137 : decode cL_law 137 = .ok (.iconst 2, 1) := by decide +kernel
theorem dL_law_138 : decode cL_law 138 = .ok (.iadd, 1) := by decide +kernel
theorem dL_law_139 : decode cL_law 139 = .ok (.iaload, 1) := by decide +kernel
theorem dL_law_140 : decode cL_law 140 = .ok (.invokevirtual 18, 3) := by decide +kernel
theorem dL_law_143 : decode cL_law 143 = .ok (.aload_n 2, 1) := by decide +kernel
theorem dL_law_144 : decode cL_law 144 = .ok (.aload_n 0, 1) := by decide +kernel
theorem dL_law_145 : decode cL_law 145 = .ok (.iload_n 3, 1) := by decide +kernel
theorem dL_law_146 : decode cL_law 146 = .ok (.iconst 1, 1) := by decide +kernel
theorem dL_law_147 : decode cL_law 147 = .ok (.iadd, 1) := by decide +kernel
theorem dL_law_148 : decode cL_law 148 = .ok (.iaload, 1) := by decide +kernel
theorem dL_law_149 : decode cL_law 149 = .ok (.aload_n 0, 1) := by decide +kernel
theorem dL_law_150 : decode cL_law 150 = .ok (.iload_n 3, 1) := by decide +kernel
theorem dL_law_151 : decode cL_law 151 = .ok (.iconst 2, 1) := by decide +kernel
theorem dL_law_152 : decode cL_law 152 = .ok (.iadd, 1) := by decide +kernel
theorem dL_law_153 : decode cL_law 153 = .ok (.iaload, 1) := by decide +kernel
theorem dL_law_154 : decode cL_law 154 = .ok (.invokevirtual 21, 3) := by decide +kernel
theorem dL_law_157 : decode cL_law 157 = .ok (.if_icmp .eq 265, 3) := by decide +kernel
theorem dL_law_160 : decode cL_law 160 = .ok (.iconst 0, 1) := by decide +kernel
theorem dL_law_161 : decode cL_law 161 = .ok (.ireturn, 1) := by decide +kernel
theorem dL_law_162 : decode cL_law 162 = .ok (.aload_n 1, 1) := by decide +kernel
theorem dL_law_163 : decode cL_law 163 = .ok (.aload_n 0, 1) := by decide +kernel
theorem dL_law_164 : decode cL_law 164 = .ok (.iload_n 3, 1) := by decide +kernel
theorem dL_law_165 : decode cL_law 165 = .ok (.iconst 1, 1) := by decide +kernel
theorem dL_law_166 : decode cL_law 166 = .ok (.iadd, 1) := by decide +kernel
theorem dL_law_167 : decode cL_law 167 = .ok (.iaload, 1) := by decide +kernel
theorem dL_law_168 : decode cL_law 168 = .ok (.aload_n 0, 1) := by decide +kernel
theorem dL_law_169 : decode cL_law 169 = .ok (.iload_n 3, 1) := by decide +kernel
theorem dL_law_170 : decode cL_law 170 = .ok (.iconst 2, 1) := by decide +kernel
theorem dL_law_171 : decode cL_law 171 = .ok (.iadd, 1) := by decide +kernel
theorem dL_law_172 : decode cL_law 172 = .ok (.iaload, 1) := by decide +kernel
theorem dL_law_173 : decode cL_law 173 = .ok (.invokevirtual 22, 3) := by decide +kernel
theorem dL_law_176 : decode cL_law 176 = .ok (.aload_n 2, 1) := by decide +kernel
theorem dL_law_177 : decode cL_law 177 = .ok (.aload_n 0, 1) := by decide +kernel
theorem dL_law_178 : decode cL_law 178 = .ok (.iload_n 3, 1) := by decide +kernel
theorem dL_law_179 : decode cL_law 179 = .ok (.iconst 1, 1) := by decide +kernel
theorem dL_law_180 : decode cL_law 180 = .ok (.iadd, 1) := by decide +kernel
theorem dL_law_181 : decode cL_law 181 = .ok (.iaload, 1) := by decide +kernel
theorem dL_law_182 : decode cL_law 182 = .ok (.aload_n 0, 1) := by decide +kernel
theorem dL_law_183 : decode cL_law 183 = .ok (.iload_n 3, 1) := by decide +kernel
theorem dL_law_184 : decode cL_law 184 = .ok (.iconst 2, 1) := by decide +kernel
theorem dL_law_185 : decode cL_law 185 = .ok (.iadd, 1) := by decide +kernel
theorem dL_law_186 : decode cL_law 186 = .ok (.iaload, 1) := by decide +kernel
theorem dL_law_187 : decode cL_law 187 = .ok (.invokevirtual 26, 3) := by decide +kernel
theorem dL_law_190 : decode cL_law 190 = .ok (.if_icmp .eq 232, 3) := by decide +kernel
theorem dL_law_193 : decode cL_law 193 = .ok (.iconst 0, 1) := by decide +kernel
theorem dL_law_194 : decode cL_law 194 = .ok (.ireturn, 1) := by decide +kernel
theorem dL_law_195 : decode cL_law 195 = .ok (.aload_n 1, 1) := by decide +kernel
theorem dL_law_196 : decode cL_law 196 = .ok (.aload_n 0, 1) := by decide +kernel
theorem dL_law_197 : decode cL_law 197 = .ok (.iload_n 3, 1) := by decide +kernel
theorem dL_law_198 : decode cL_law 198 = .ok (.iconst 1, 1) := by decide +kernel
theorem dL_law_199 : decode cL_law 199 = .ok (.iadd, 1) := by decide +kernel
theorem dL_law_200 : decode cL_law 200 = .ok (.iaload, 1) := by decide +kernel
theorem dL_law_201 : decode cL_law 201 = .ok (.aload_n 0, 1) := by decide +kernel
theorem dL_law_202 : decode cL_law 202 = .ok (.iload_n 3, 1) := by decide +kernel
theorem dL_law_203 : decode cL_law 203 = .ok (.iconst 2, 1) := by decide +kernel
theorem dL_law_204 : decode cL_law 204 = .ok (.iadd, 1) := by decide +kernel
theorem dL_law_205 : decode cL_law 205 = .ok (.iaload, 1) := by decide +kernel
theorem dL_law_206 : decode cL_law 206 = .ok (.invokevirtual 27, 3) := by decide +kernel
theorem dL_law_209 : decode cL_law 209 = .ok (.aload_n 2, 1) := by decide +kernel
theorem dL_law_210 : decode cL_law 210 = .ok (.aload_n 0, 1) := by decide +kernel
theorem dL_law_211 : decode cL_law 211 = .ok (.iload_n 3, 1) := by decide +kernel
theorem dL_law_212 : decode cL_law 212 = .ok (.iconst 1, 1) := by decide +kernel
theorem dL_law_213 : decode cL_law 213 = .ok (.iadd, 1) := by decide +kernel
theorem dL_law_214 : decode cL_law 214 = .ok (.iaload, 1) := by decide +kernel
theorem dL_law_215 : decode cL_law 215 = .ok (.aload_n 0, 1) := by decide +kernel
theorem dL_law_216 : decode cL_law 216 = .ok (.iload_n 3, 1) := by decide +kernel
theorem dL_law_217 : decode cL_law 217 = .ok (.iconst 2, 1) := by decide +kernel
theorem dL_law_218 : decode cL_law 218 = .ok (.iadd, 1) := by decide +kernel
theorem dL_law_219 : decode cL_law 219 = .ok (.iaload, 1) := by decide +kernel
theorem dL_law_220 : decode cL_law 220 = .ok (.invokevirtual 30, 3) := by decide +kernel
theorem dL_law_223 : decode cL_law 223 = .ok (.if_icmp .eq 199, 3) := by decide +kernel
theorem dL_law_226 : decode cL_law 226 = .ok (.iconst 0, 1) := by decide +kernel
theorem dL_law_227 : decode cL_law 227 = .ok (.ireturn, 1) := by decide +kernel
theorem dL_law_228 : decode cL_law 228 = .ok (.aload_n 1, 1) := by decide +kernel
theorem dL_law_229 : decode cL_law 229 = .ok (.aload_n 0, 1) := by decide +kernel
theorem dL_law_230 : decode cL_law 230 = .ok (.iload_n 3, 1) := by decide +kernel
theorem dL_law_231 : decode cL_law 231 = .ok (.iconst 1, 1) := by decide +kernel
theorem dL_law_232 : decode cL_law 232 = .ok (.iadd, 1) := by decide +kernel
theorem dL_law_233 : decode cL_law 233 = .ok (.iaload, 1) := by decide +kernel
theorem dL_law_234 : decode cL_law 234 = .ok (.invokevirtual 31, 3) := by decide +kernel
theorem dL_law_237 : decode cL_law 237 = .ok (.aload_n 2, 1) := by decide +kernel
theorem dL_law_238 : decode cL_law 238 = .ok (.aload_n 0, 1) := by decide +kernel
theorem dL_law_239 : decode cL_law 239 = .ok (.iload_n 3, 1) := by decide +kernel
theorem dL_law_240 : decode cL_law 240 = .ok (.iconst 1, 1) := by decide +kernel
theorem dL_law_241 : decode cL_law 241 = .ok (.iadd, 1) := by decide +kernel
theorem dL_law_242 : decode cL_law 242 = .ok (.iaload, 1) := by decide +kernel
theorem dL_law_243 : decode cL_law 243 = .ok (.invokevirtual 35, 3) := by decide +kernel
theorem dL_law_246 : decode cL_law 246 = .ok (.if_icmp .eq 176, 3) := by decide +kernel
theorem dL_law_249 : decode cL_law 249 = .ok (.iconst 0, 1) := by decide +kernel
theorem dL_law_250 : decode cL_law 250 = .ok (.ireturn, 1) := by decide +kernel
theorem dL_law_251 : decode cL_law 251 = .ok (.aload_n 1, 1) := by decide +kernel
theorem dL_law_252 : decode cL_law 252 = .ok (.aload_n 0, 1) := by decide +kernel
theorem dL_law_253 : decode cL_law 253 = .ok (.iload_n 3, 1) := by decide +kernel
theorem dL_law_254 : decode cL_law 254 = .ok (.iconst 1, 1) := by decide +kernel
theorem dL_law_255 : decode cL_law 255 = .ok (.iadd, 1) := by decide +kernel
theorem dL_law_256 : decode cL_law 256 = .ok (.iaload, 1) := by decide +kernel
theorem dL_law_257 : decode cL_law 257 = .ok (.invokevirtual 36, 3) := by decide +kernel
theorem dL_law_260 : decode cL_law 260 = .ok (.aload_n 2, 1) := by decide +kernel
theorem dL_law_261 : decode cL_law 261 = .ok (.aload_n 0, 1) := by decide +kernel
theorem dL_law_262 : decode cL_law 262 = .ok (.iload_n 3, 1) := by decide +kernel
theorem dL_law_263 : decode cL_law 263 = .ok (.iconst 1, 1) := by decide +kernel
theorem dL_law_264 : decode cL_law 264 = .ok (.iadd, 1) := by decide +kernel
theorem dL_law_265 : decode cL_law 265 = .ok (.iaload, 1) := by decide +kernel
theorem dL_law_266 : decode cL_law 266 = .ok (.invokevirtual 39, 3) := by decide +kernel
theorem dL_law_269 : decode cL_law 269 = .ok (.if_icmp .eq 153, 3) := by decide +kernel
theorem dL_law_272 : decode cL_law 272 = .ok (.iconst 0, 1) := by decide +kernel
theorem dL_law_273 : decode cL_law 273 = .ok (.ireturn, 1) := by decide +kernel
theorem dL_law_274 : decode cL_law 274 = .ok (.aload_n 1, 1) := by decide +kernel
theorem dL_law_275 : decode cL_law 275 = .ok (.aload_n 0, 1) := by decide +kernel
theorem dL_law_276 : decode cL_law 276 = .ok (.iload_n 3, 1) := by decide +kernel
theorem dL_law_277 : decode cL_law 277 = .ok (.iconst 1, 1) := by decide +kernel
theorem dL_law_278 : decode cL_law 278 = .ok (.iadd, 1) := by decide +kernel
theorem dL_law_279 : decode cL_law 279 = .ok (.iaload, 1) := by decide +kernel
theorem dL_law_280 : decode cL_law 280 = .ok (.aload_n 0, 1) := by decide +kernel
theorem dL_law_281 : decode cL_law 281 = .ok (.iload_n 3, 1) := by decide +kernel
theorem dL_law_282 : decode cL_law 282 = .ok (.iconst 2, 1) := by decide +kernel
theorem dL_law_283 : decode cL_law 283 = .ok (.iadd, 1) := by decide +kernel
theorem dL_law_284 : decode cL_law 284 = .ok (.iaload, 1) := by decide +kernel
theorem dL_law_285 : decode cL_law 285 = .ok (.invokevirtual 40, 3) := by decide +kernel
theorem dL_law_288 : decode cL_law 288 = .ok (.aload_n 2, 1) := by decide +kernel
theorem dL_law_289 : decode cL_law 289 = .ok (.aload_n 0, 1) := by decide +kernel
theorem dL_law_290 : decode cL_law 290 = .ok (.iload_n 3, 1) := by decide +kernel
theorem dL_law_291 : decode cL_law 291 = .ok (.iconst 1, 1) := by decide +kernel
theorem dL_law_292 : decode cL_law 292 = .ok (.iadd, 1) := by decide +kernel
theorem dL_law_293 : decode cL_law 293 = .ok (.iaload, 1) := by decide +kernel
theorem dL_law_294 : decode cL_law 294 = .ok (.aload_n 0, 1) := by decide +kernel
theorem dL_law_295 : decode cL_law 295 = .ok (.iload_n 3, 1) := by decide +kernel
theorem dL_law_296 : decode cL_law 296 = .ok (.iconst 2, 1) := by decide +kernel
theorem dL_law_297 : decode cL_law 297 = .ok (.iadd, 1) := by decide +kernel
theorem dL_law_298 : decode cL_law 298 = .ok (.iaload, 1) := by decide +kernel
theorem dL_law_299 : decode cL_law 299 = .ok (.invokevirtual 43, 3) := by decide +kernel
theorem dL_law_302 : decode cL_law 302 = .ok (.if_icmp .eq 120, 3) := by decide +kernel
theorem dL_law_305 : decode cL_law 305 = .ok (.iconst 0, 1) := by decide +kernel
theorem dL_law_306 : decode cL_law 306 = .ok (.ireturn, 1) := by decide +kernel
theorem dL_law_307 : decode cL_law 307 = .ok (.aload_n 1, 1) := by decide +kernel
theorem dL_law_308 : decode cL_law 308 = .ok (.aload_n 0, 1) := by decide +kernel
theorem dL_law_309 : decode cL_law 309 = .ok (.iload_n 3, 1) := by decide +kernel
theorem dL_law_310 : decode cL_law 310 = .ok (.iconst 1, 1) := by decide +kernel
theorem dL_law_311 : decode cL_law 311 = .ok (.iadd, 1) := by decide +kernel
theorem dL_law_312 : decode cL_law 312 = .ok (.iaload, 1) := by decide +kernel
theorem dL_law_313 : decode cL_law 313 = .ok (.invokevirtual 44, 3) := by decide +kernel
theorem dL_law_316 : decode cL_law 316 = .ok (.aload_n 2, 1) := by decide +kernel
theorem dL_law_317 : decode cL_law 317 = .ok (.aload_n 0, 1) := by decide +kernel
theorem dL_law_318 : decode cL_law 318 = .ok (.iload_n 3, 1) := by decide +kernel
theorem dL_law_319 : decode cL_law 319 = .ok (.iconst 1, 1) := by decide +kernel
theorem dL_law_320 : decode cL_law 320 = .ok (.iadd, 1) := by decide +kernel
theorem dL_law_321 : decode cL_law 321 = .ok (.iaload, 1) := by decide +kernel
theorem dL_law_322 : decode cL_law 322 = .ok (.invokevirtual 47, 3) := by decide +kernel
theorem dL_law_325 : decode cL_law 325 = .ok (.if_icmp .eq 97, 3) := by decide +kernel
theorem dL_law_328 : decode cL_law 328 = .ok (.iconst 0, 1) := by decide +kernel
theorem dL_law_329 : decode cL_law 329 = .ok (.ireturn, 1) := by decide +kernel
theorem dL_law_330 : decode cL_law 330 = .ok (.aload_n 1, 1) := by decide +kernel
theorem dL_law_331 : decode cL_law 331 = .ok (.aload_n 0, 1) := by decide +kernel
theorem dL_law_332 : decode cL_law 332 = .ok (.iload_n 3, 1) := by decide +kernel
theorem dL_law_333 : decode cL_law 333 = .ok (.iconst 1, 1) := by decide +kernel
theorem dL_law_334 : decode cL_law 334 = .ok (.iadd, 1) := by decide +kernel
theorem dL_law_335 : decode cL_law 335 = .ok (.iaload, 1) := by decide +kernel
theorem dL_law_336 : decode cL_law 336 = .ok (.invokevirtual 48, 3) := by decide +kernel
theorem dL_law_339 : decode cL_law 339 = .ok (.aload_n 2, 1) := by decide +kernel
theorem dL_law_340 : decode cL_law 340 = .ok (.aload_n 0, 1) := by decide +kernel
theorem dL_law_341 : decode cL_law 341 = .ok (.iload_n 3, 1) := by decide +kernel
theorem dL_law_342 : decode cL_law 342 = .ok (.iconst 1, 1) := by decide +kernel
theorem dL_law_343 : decode cL_law 343 = .ok (.iadd, 1) := by decide +kernel
theorem dL_law_344 : decode cL_law 344 = .ok (.iaload, 1) := by decide +kernel
theorem dL_law_345 : decode cL_law 345 = .ok (.invokevirtual 51, 3) := by decide +kernel
theorem dL_law_348 : decode cL_law 348 = .ok (.if_icmp .eq 74, 3) := by decide +kernel
theorem dL_law_351 : decode cL_law 351 = .ok (.iconst 0, 1) := by decide +kernel
theorem dL_law_352 : decode cL_law 352 = .ok (.ireturn, 1) := by decide +kernel
theorem dL_law_353 : decode cL_law 353 = .ok (.aload_n 1, 1) := by decide +kernel
theorem dL_law_354 : decode cL_law 354 = .ok (.aload_n 0, 1) := by decide +kernel
theorem dL_law_355 : decode cL_law 355 = .ok (.iload_n 3, 1) := by decide +kernel
theorem dL_law_356 : decode cL_law 356 = .ok (.iconst 1, 1) := by decide +kernel
theorem dL_law_357 : decode cL_law 357 = .ok (.iadd, 1) := by decide +kernel
theorem dL_law_358 : decode cL_law 358 = .ok (.iaload, 1) := by decide +kernel
theorem dL_law_359 : decode cL_law 359 = .ok (.invokevirtual 52, 3) := by decide +kernel
theorem dL_law_362 : decode cL_law 362 = .ok (.aload_n 2, 1) := by decide +kernel
theorem dL_law_363 : decode cL_law 363 = .ok (.aload_n 0, 1) := by decide +kernel
theorem dL_law_364 : decode cL_law 364 = .ok (.iload_n 3, 1) := by decide +kernel
theorem dL_law_365 : decode cL_law 365 = .ok (.iconst 1, 1) := by decide +kernel
theorem dL_law_366 : decode cL_law 366 = .ok (.iadd, 1) := by decide +kernel
theorem dL_law_367 : decode cL_law 367 = .ok (.iaload, 1) := by decide +kernel
theorem dL_law_368 : decode cL_law 368 = .ok (.invokevirtual 55, 3) := by decide +kernel
theorem dL_law_371 : decode cL_law 371 = .ok (.if_icmp .eq 51, 3) := by decide +kernel
theorem dL_law_374 : decode cL_law 374 = .ok (.iconst 0, 1) := by decide +kernel
theorem dL_law_375 : decode cL_law 375 = .ok (.ireturn, 1) := by decide +kernel
theorem dL_law_376 : decode cL_law 376 = .ok (.aload_n 1, 1) := by decide +kernel
theorem dL_law_377 : decode cL_law 377 = .ok (.aload_n 0, 1) := by decide +kernel
theorem dL_law_378 : decode cL_law 378 = .ok (.iload_n 3, 1) := by decide +kernel
theorem dL_law_379 : decode cL_law 379 = .ok (.iconst 1, 1) := by decide +kernel
theorem dL_law_380 : decode cL_law 380 = .ok (.iadd, 1) := by decide +kernel
theorem dL_law_381 : decode cL_law 381 = .ok (.iaload, 1) := by decide +kernel
theorem dL_law_382 : decode cL_law 382 = .ok (.invokevirtual 56, 3) := by decide +kernel
theorem dL_law_385 : decode cL_law 385 = .ok (.aload_n 2, 1) := by decide +kernel
theorem dL_law_386 : decode cL_law 386 = .ok (.aload_n 0, 1) := by decide +kernel
theorem dL_law_387 : decode cL_law 387 = .ok (.iload_n 3, 1) := by decide +kernel
theorem dL_law_388 : decode cL_law 388 = .ok (.iconst 1, 1) := by decide +kernel
theorem dL_law_389 : decode cL_law 389 = .ok (.iadd, 1) := by decide +kernel
theorem dL_law_390 : decode cL_law 390 = .ok (.iaload, 1) := by decide +kernel
theorem dL_law_391 : decode cL_law 391 = .ok (.invokevirtual 59, 3) := by decide +kernel
theorem dL_law_394 : decode cL_law 394 = .ok (.if_icmp .eq 28, 3) := by decide +kernel
theorem dL_law_397 : decode cL_law 397 = .ok (.iconst 0, 1) := by decide +kernel
theorem dL_law_398 : decode cL_law 398 = .ok (.ireturn, 1) := by decide +kernel
theorem dL_law_399 : decode cL_law 399 = .ok (.aload_n 1, 1) := by decide +kernel
theorem dL_law_400 : decode cL_law 400 = .ok (.aload_n 0, 1) := by decide +kernel
theorem dL_law_401 : decode cL_law 401 = .ok (.iload_n 3, 1) := by decide +kernel
theorem dL_law_402 : decode cL_law 402 = .ok (.iconst 1, 1) := by decide +kernel
theorem dL_law_403 : decode cL_law 403 = .ok (.iadd, 1) := by decide +kernel
theorem dL_law_404 : decode cL_law 404 = .ok (.iaload, 1) := by decide +kernel
theorem dL_law_405 : decode cL_law 405 = .ok (.invokevirtual 60, 3) := by decide +kernel
theorem dL_law_408 : decode cL_law 408 = .ok (.aload_n 2, 1) := by decide +kernel
theorem dL_law_409 : decode cL_law 409 = .ok (.aload_n 0, 1) := by decide +kernel
theorem dL_law_410 : decode cL_law 410 = .ok (.iload_n 3, 1) := by decide +kernel
theorem dL_law_411 : decode cL_law 411 = .ok (.iconst 1, 1) := by decide +kernel
theorem dL_law_412 : decode cL_law 412 = .ok (.iadd, 1) := by decide +kernel
theorem dL_law_413 : decode cL_law 413 = .ok (.iaload, 1) := by decide +kernel
theorem dL_law_414 : decode cL_law 414 = .ok (.invokevirtual 63, 3) := by decide +kernel
theorem dL_law_417 : decode cL_law 417 = .ok (.if_icmp .eq 5, 3) := by decide +kernel
theorem dL_law_420 : decode cL_law 420 = .ok (.iconst 0, 1) := by decide +kernel
theorem dL_law_421 : decode cL_law 421 = .ok (.ireturn, 1) := by decide +kernel
theorem dL_law_422 : decode cL_law 422 = .ok (.iinc 3 3, 3) := by decide +kernel
theorem dL_law_425 : decode cL_law 425 = .ok (.goto (-407), 3) := by decide +kernel
theorem dL_law_428 : decode cL_law 428 = .ok (.iconst 1, 1) := by decide +kernel
theorem dL_law_429 : decode cL_law 429 = .ok (.ireturn, 1) := by decide +kernel
theorem q20 : (Jvm.Cond.initialized "QuotientFilterLaw") ∈ lw_all := lw_g (lw_at lw_m0 0 rfl) rfl
set_option maxRecDepth 100000
theorem q23 : (Jvm.Cond.classLink "QuotientFilterLaw" (7 : Nat) "QuotientFilter") ∈ lw_all := lw_g (lw_at lw_m0 3 rfl) rfl
theorem q25 : (Jvm.Cond.methodLink "QuotientFilterLaw" (9 : Nat) ({ cls := "QuotientFilter", name := "<init>", desc := "()V" } : Jvm.MethodName)) ∈ lw_all := lw_g (lw_at lw_m0 5 rfl) rfl
theorem q59 : (Jvm.Cond.methodLink "QuotientFilterLaw" (13 : Nat) ({ cls := "QuotientFilter", name := "add", desc := "(II)I" } : Jvm.MethodName)) ∈ lw_all := lw_g (lw_at lw_m0 39 rfl) rfl
theorem q120 : (Jvm.Cond.methodLink "QuotientFilterLaw" (18 : Nat) ({ cls := "QuotientFilter", name := "remove", desc := "(II)I" } : Jvm.MethodName)) ∈ lw_all := lw_g (lw_at lw_m0 100 rfl) rfl
theorem q136 : (Jvm.Cond.methodLink "QuotientFilterLaw" (22 : Nat) ({ cls := "QuotientFilter", name := "maybe", desc := "(II)Z" } : Jvm.MethodName)) ∈ lw_all := lw_g (lw_at lw_m0 116 rfl) rfl
theorem q140 : (Jvm.Cond.methodLink "QuotientFilterLaw" (27 : Nat) ({ cls := "QuotientFilter", name := "times", desc := "(II)I" } : Jvm.MethodName)) ∈ lw_all := lw_g (lw_at lw_m0 120 rfl) rfl
theorem q144 : (Jvm.Cond.methodLink "QuotientFilterLaw" (31 : Nat) ({ cls := "QuotientFilter", name := "count", desc := "(I)I" } : Jvm.MethodName)) ∈ lw_all := lw_g (lw_at lw_m0 124 rfl) rfl
theorem q148 : (Jvm.Cond.methodLink "QuotientFilterLaw" (36 : Nat) ({ cls := "QuotientFilter", name := "size", desc := "(I)I" } : Jvm.MethodName)) ∈ lw_all := lw_g (lw_at lw_m0 128 rfl) rfl
theorem q152 : (Jvm.Cond.methodLink "QuotientFilterLaw" (40 : Nat) ({ cls := "QuotientFilter", name := "print", desc := "(II)I" } : Jvm.MethodName)) ∈ lw_all := lw_g (lw_at lw_m0 132 rfl) rfl
theorem q160 : (Jvm.Cond.methodLink "QuotientFilterLaw" (44 : Nat) ({ cls := "QuotientFilter", name := "grow", desc := "(I)I" } : Jvm.MethodName)) ∈ lw_all := lw_g (lw_at lw_m0 140 rfl) rfl
theorem q172 : (Jvm.Cond.methodLink "QuotientFilterLaw" (48 : Nat) ({ cls := "QuotientFilter", name := "shrink", desc := "(I)I" } : Jvm.MethodName)) ∈ lw_all := lw_g (lw_at lw_m0 152 rfl) rfl
theorem q176 : (Jvm.Cond.methodLink "QuotientFilterLaw" (52 : Nat) ({ cls := "QuotientFilter", name := "pour", desc := "(I)I" } : Jvm.MethodName)) ∈ lw_all := lw_g (lw_at lw_m0 156 rfl) rfl
theorem q180 : (Jvm.Cond.methodLink "QuotientFilterLaw" (56 : Nat) ({ cls := "QuotientFilter", name := "clear", desc := "(I)I" } : Jvm.MethodName)) ∈ lw_all := lw_g (lw_at lw_m0 160 rfl) rfl
theorem q184 : (Jvm.Cond.methodLink "QuotientFilterLaw" (60 : Nat) ({ cls := "QuotientFilter", name := "printOf", desc := "(I)I" } : Jvm.MethodName)) ∈ lw_all := lw_g (lw_at lw_m0 164 rfl) rfl
theorem q185 : (Jvm.Cond.classLink "QuotientFilterLaw" (10 : Nat) "QuotientFilterModel") ∈ lw_all := lw_g (lw_at lw_m0 165 rfl) rfl
theorem q187 : (Jvm.Cond.methodLink "QuotientFilterLaw" (12 : Nat) ({ cls := "QuotientFilterModel", name := "<init>", desc := "()V" } : Jvm.MethodName)) ∈ lw_all := lw_g (lw_at lw_m0 167 rfl) rfl
theorem q199 : (Jvm.Cond.methodLink "QuotientFilterLaw" (17 : Nat) ({ cls := "QuotientFilterModel", name := "add", desc := "(II)I" } : Jvm.MethodName)) ∈ lw_all := lw_g (lw_at lw_m0 179 rfl) rfl
theorem q216 : (Jvm.Cond.methodLink "QuotientFilterLaw" (21 : Nat) ({ cls := "QuotientFilterModel", name := "remove", desc := "(II)I" } : Jvm.MethodName)) ∈ lw_all := lw_g (lw_at lw_m0 196 rfl) rfl
theorem q220 : (Jvm.Cond.methodLink "QuotientFilterLaw" (26 : Nat) ({ cls := "QuotientFilterModel", name := "maybe", desc := "(II)Z" } : Jvm.MethodName)) ∈ lw_all := lw_g (lw_at lw_m0 200 rfl) rfl
theorem q224 : (Jvm.Cond.methodLink "QuotientFilterLaw" (30 : Nat) ({ cls := "QuotientFilterModel", name := "times", desc := "(II)I" } : Jvm.MethodName)) ∈ lw_all := lw_g (lw_at lw_m0 204 rfl) rfl
theorem q228 : (Jvm.Cond.methodLink "QuotientFilterLaw" (35 : Nat) ({ cls := "QuotientFilterModel", name := "count", desc := "(I)I" } : Jvm.MethodName)) ∈ lw_all := lw_g (lw_at lw_m0 208 rfl) rfl
theorem q229 : (Jvm.Cond.methodLink "QuotientFilterLaw" (39 : Nat) ({ cls := "QuotientFilterModel", name := "size", desc := "(I)I" } : Jvm.MethodName)) ∈ lw_all := lw_g (lw_at lw_m0 209 rfl) rfl
theorem q233 : (Jvm.Cond.methodLink "QuotientFilterLaw" (43 : Nat) ({ cls := "QuotientFilterModel", name := "print", desc := "(II)I" } : Jvm.MethodName)) ∈ lw_all := lw_g (lw_at lw_m0 213 rfl) rfl
theorem q237 : (Jvm.Cond.methodLink "QuotientFilterLaw" (47 : Nat) ({ cls := "QuotientFilterModel", name := "grow", desc := "(I)I" } : Jvm.MethodName)) ∈ lw_all := lw_g (lw_at lw_m0 217 rfl) rfl
theorem q241 : (Jvm.Cond.methodLink "QuotientFilterLaw" (51 : Nat) ({ cls := "QuotientFilterModel", name := "shrink", desc := "(I)I" } : Jvm.MethodName)) ∈ lw_all := lw_g (lw_at lw_m0 221 rfl) rfl
theorem q245 : (Jvm.Cond.methodLink "QuotientFilterLaw" (55 : Nat) ({ cls := "QuotientFilterModel", name := "pour", desc := "(I)I" } : Jvm.MethodName)) ∈ lw_all := lw_g (lw_at lw_m0 225 rfl) rfl
theorem q249 : (Jvm.Cond.methodLink "QuotientFilterLaw" (59 : Nat) ({ cls := "QuotientFilterModel", name := "clear", desc := "(I)I" } : Jvm.MethodName)) ∈ lw_all := lw_g (lw_at lw_m0 229 rfl) rfl
theorem q253 : (Jvm.Cond.methodLink "QuotientFilterLaw" (63 : Nat) ({ cls := "QuotientFilterModel", name := "printOf", desc := "(I)I" } : Jvm.MethodName)) ∈ lw_all := lw_g (lw_at lw_m0 233 rfl) rfl
end
section
/-! THE FILTER'S WORLD: its state as plain numbers and truth values, its eight cells, a row an access -/
/-- one filter: bits, held, lower, named, goesOn, pushed (by slot) -/
abbrev qf_FS : Type := Nat × Nat × (Nat → Nat) × (Nat → Bool) × (Nat → Bool) × (Nat → Bool)
/-- both filters, readCount, read -/
abbrev qf_QS : Type := (Nat → qf_FS) × Nat × (Nat → Nat)
abbrev qf_B (G : qf_FS) : Nat := G.1
abbrev qf_H (G : qf_FS) : Nat := G.2.1
abbrev qf_L (G : qf_FS) : Nat → Nat := G.2.2.1
abbrev qf_N (G : qf_FS) : Nat → Bool := G.2.2.2.1
abbrev qf_O (G : qf_FS) : Nat → Bool := G.2.2.2.2.1
abbrev qf_P (G : qf_FS) : Nat → Bool := G.2.2.2.2.2
/-- a slot that is not free -/
def qf_U (G : qf_FS) (x : Nat) : Bool := qf_N G x || qf_O G x || qf_P G x
def qf_setB (G : qf_FS) (v : Nat) : qf_FS := (v, G.2)
def qf_setH (G : qf_FS) (v : Nat) : qf_FS := (G.1, v, G.2.2)
def qf_setL (G : qf_FS) (x v : Nat) : qf_FS := (G.1, G.2.1, va_up G.2.2.1 x v, G.2.2.2)
def qf_setN (G : qf_FS) (x : Nat) (v : Bool) : qf_FS := (G.1, G.2.1, G.2.2.1, va_up G.2.2.2.1 x v, G.2.2.2.2)
def qf_setO (G : qf_FS) (x : Nat) (v : Bool) : qf_FS := (G.1, G.2.1, G.2.2.1, G.2.2.2.1, va_up G.2.2.2.2.1 x v, G.2.2.2.2.2)
def qf_setP (G : qf_FS) (x : Nat) (v : Bool) : qf_FS := (G.1, G.2.1, G.2.2.1, G.2.2.2.1, G.2.2.2.2.1, va_up G.2.2.2.2.2 x v)
def qf_b (v : Bool) : Int32 := if v then 1 else 0
theorem qf_b_ne (v : Bool) : ¬ qf_b v = 0 ↔ v = true := by cases v <;> decide
theorem qf_b_eq (v : Bool) : qf_b v = 0 ↔ v = false := by cases v <;> decide
theorem qf_b_nar (v : Bool) : vp_nar .boolean (qf_b v) = qf_b v := by cases v <;> rfl
theorem qf_b_ret (v : Bool) : narrow .boolean (.int (qf_b v)) = .int (qf_b v) := by cases v <;> rfl
abbrev qf_cl : List vw_C := [(RX0, TX0, 8), (RX1, TX1, 2)]
/-- the cells, by raw contents -/
def qf_r (g : Nat → Nat) (dA : Nat → ClassId) (b h l n o p : Nat → Int32) (rc : Int32) (rd : Nat → Int32) : va_W :=
  [(g 0, .inr (0, [.ref (g 1), .ref (g 2), .ref (g 3), .ref (g 4), .ref (g 5), .ref (g 6), .int rc, .ref (g 7)])),
   (g 1, .inl (dA 1, 2, .inl b)), (g 2, .inl (dA 2, 2, .inl h)), (g 3, .inl (dA 3, 128, .inl l)), (g 4, .inl (dA 4, 128, .inl n)), (g 5, .inl (dA 5, 128, .inl o)), (g 6, .inl (dA 6, 128, .inl p)), (g 7, .inl (dA 7, 64, .inl rd))]
/-- the cells of a state -/
def qf_w (g : Nat → Nat) (dA : Nat → ClassId) (u : qf_QS) : va_W :=
  qf_r g dA (fun j => nI (qf_B (u.1 j))) (fun j => nI (qf_H (u.1 j))) (fun j => nI (qf_L (u.1 (j / 64)) (j % 64))) (fun j => qf_b (qf_N (u.1 (j / 64)) (j % 64))) (fun j => qf_b (qf_O (u.1 (j / 64)) (j % 64))) (fun j => qf_b (qf_P (u.1 (j / 64)) (j % 64))) (nI u.2.1) (fun j => nI (u.2.2 j))
abbrev qf_tys (dA : Nat → ClassId) : List (ClassId × FieldType) := [(dA 1, .byte), (dA 2, .byte), (dA 3, .byte), (dA 4, .boolean), (dA 5, .boolean), (dA 6, .boolean), (dA 7, .short)]
def qf_dj (g : Nat → Nat) : Prop := ∀ i j, i < 8 → j < 8 → g i = g j → i = j
def qf_A (g : Nat → Nat) : Nat → Prop := fun q => ∃ k, k < 8 ∧ q = g k
theorem qf_r_at {g : Nat → Nat} {dA : Nat → ClassId} {b h l n o p : Nat → Int32} {rc : Int32} {rd : Nat → Int32} {k : Nat} {q : Nat × va_E} (hk : (qf_r g dA b h l n o p rc rd)[k]? = some q) : k < 8 ∧ q.1 = g k := by
  match k, hk with
  | 0, hk => cases hk; exact ⟨by decide, rfl⟩
  | 1, hk => cases hk; exact ⟨by decide, rfl⟩
  | 2, hk => cases hk; exact ⟨by decide, rfl⟩
  | 3, hk => cases hk; exact ⟨by decide, rfl⟩
  | 4, hk => cases hk; exact ⟨by decide, rfl⟩
  | 5, hk => cases hk; exact ⟨by decide, rfl⟩
  | 6, hk => cases hk; exact ⟨by decide, rfl⟩
  | 7, hk => cases hk; exact ⟨by decide, rfl⟩
  | k + 8, hk => simp [qf_r] at hk
theorem qf_D {g : Nat → Nat} (hg : qf_dj g) (dA : Nat → ClassId) (u : qf_QS) : va_D (qf_A g) (qf_w g dA u) := by
  refine ⟨fun i j p q hi hj e => ?_, fun k q hk => ?_⟩
  · obtain ⟨i8, ei⟩ := qf_r_at hi
    obtain ⟨j8, ej⟩ := qf_r_at hj
    exact hg i j i8 j8 (ei.symm.trans (e.trans ej))
  · obtain ⟨k8, ek⟩ := qf_r_at hk
    exact ⟨k, k8, ek⟩
theorem qf_w_of {dC : Nat → ClassId} {dI : Nat → Nat → Nat} {g : Nat → Nat} {dA : Nat → ClassId} {b h l n o p : Nat → Int32} {rc : Int32} {rd : Nat → Int32} {H : Heap} {u : qf_QS} (hP : va_P (dC, dI) qf_cl (qf_r g dA b h l n o p rc rd) H)
    (e1 : ∀ j, b j = nI (qf_B (u.1 j))) (e2 : ∀ j, h j = nI (qf_H (u.1 j))) (e3 : ∀ j, l j = nI (qf_L (u.1 (j / 64)) (j % 64))) (e4 : ∀ j, n j = qf_b (qf_N (u.1 (j / 64)) (j % 64))) (e5 : ∀ j, o j = qf_b (qf_O (u.1 (j / 64)) (j % 64))) (e6 : ∀ j, p j = qf_b (qf_P (u.1 (j / 64)) (j % 64))) (e7 : rc = nI u.2.1) (e8 : ∀ j, rd j = nI (u.2.2 j)) : va_P (dC, dI) qf_cl (qf_w g dA u) H := by
  have h1 := funext e1
  have h2 := funext e2
  have h3 := funext e3
  have h4 := funext e4
  have h5 := funext e5
  have h6 := funext e6
  have h8 := funext e8
  subst h1; subst h2; subst h3; subst h4; subst h5; subst h6; subst e7; subst h8
  exact hP
theorem qf_same {α : Type} (acc : qf_FS → α) (F : Nat → qf_FS) (f : Nat) (G : qf_FS) (j : Nat) (h : acc G = acc (F f)) : acc (F j) = acc (va_up F f G j) := by
  unfold va_up
  by_cases e : j = f
  · rw [if_pos e, h, e]
  · rw [if_neg e]
theorem qf_at (F : Nat → qf_FS) (f : Nat) (G : qf_FS) : va_up F f G f = G := if_pos rfl
theorem qf_upup (F : Nat → qf_FS) (f : Nat) (G G' : qf_FS) : va_up (va_up F f G) f G' = va_up F f G' := by
  funext j
  unfold va_up
  by_cases e : j = f
  · rw [if_pos e, if_pos e]
  · rw [if_neg e, if_neg e, if_neg e]
theorem qf_upself (F : Nat → qf_FS) (f : Nat) : va_up F f (F f) = F := by
  funext j
  unfold va_up
  by_cases e : j = f
  · rw [if_pos e, e]
  · rw [if_neg e]
/-- an element of a 128-array is changed: by filter and slot -/
theorem qf_chg {α : Type} (acc : qf_FS → Nat → α) (I : α → Int32) (F : Nat → qf_FS) (f x : Nat) (G : qf_FS) (v : α) (hx : x < 64) (h : acc G = va_up (acc (F f)) x v) (y : Int32) (hy : y = I v) (j : Nat) : upd (fun j => I (acc (F (j / 64)) (j % 64))) (64 * f + x) y j = I (acc (va_up F f G (j / 64)) (j % 64)) := by
  by_cases e : j = 64 * f + x
  · have a1 : (64 * f + x) / 64 = f := by omega
    have a2 : (64 * f + x) % 64 = x := by omega
    subst e
    simp only [upd, if_true, a1, a2, va_up, h, hy]
  · simp only [upd, if_neg e]
    by_cases e1 : j / 64 = f
    · have e2 : j % 64 ≠ x := by omega
      simp only [va_up, e1, if_true, h, if_neg e2]
    · simp only [va_up, if_neg e1]
def qf_RM (R : Room) (a b : Nat) : Prop := a ≤ R.frames ∧ b ≤ R.locals
theorem qf_RM.le {R : Room} {a b a' b' : Nat} (h : qf_RM R a b) (h1 : a' ≤ a) (h2 : b' ≤ b) : qf_RM R a' b' := ⟨Nat.le_trans h1 h.1, Nat.le_trans h2 h.2⟩
def qf_bk (b : Nat) : Prop := 3 ≤ b ∧ b ≤ 6
theorem qf_bk_64 {b : Nat} (h : qf_bk b) : 8 ≤ 2 ^ b ∧ 2 ^ b ≤ 64 := by
  obtain ⟨h1, h2⟩ := h
  have : b = 3 ∨ b = 4 ∨ b = 5 ∨ b = 6 := by omega
  rcases this with h | h | h | h <;> subst h <;> decide
theorem qf_bk_s {b : Nat} (h : qf_bk b) (x : Nat) : x % 2 ^ b < 64 := Nat.lt_of_lt_of_le (Nat.mod_lt _ (Nat.lt_of_lt_of_le (by decide) (qf_bk_64 h).1)) (qf_bk_64 h).2
theorem qf_byte {v : Nat} (h : v < 128) : vp_nar .byte (nI v) = nI v := by
  have key : ∀ v : Fin 128, vp_nar .byte (nI v.val) = nI v.val := by decide +kernel
  exact key ⟨v, h⟩
theorem qf_short {v : Nat} (h : v < 256) : vp_nar .short (nI v) = nI v := by
  have key : ∀ v : Fin 256, vp_nar .short (nI v.val) = nI v.val := by decide +kernel
  exact key ⟨v, h⟩
section QFR
variable {p : Program} {l : Launch} {e : Env} {R : Room} {s : State} {m : MethodId} {args : Array Value} {below : List Frame} {meth : Method} {c : Code} {H H0 : Heap} {locs : List Loc} {cells slots : Nat} {Q : State → Prop} {cc : ByteArray} {pc nL : Nat} {ls : Array Slot} {rest : List Value} {g : Nat → Nat} {dC : Nat → ClassId} {dI : Nat → Nat → Nat} {dA : Nat → ClassId} {u : qf_QS}
theorem qf_top {x y : Int32} (h : x = y) (k : W p l e R s m args below meth c H locs cells slots Q (F0 m pc ls (.int y :: rest))) : W p l e R s m args below meth c H locs cells slots Q (F0 m pc ls (.int x :: rest)) := by rw [h]; exact k
theorem qf_ifne (hx : p.tables.exec = Jvm.exec) (hb : c.code = cc) {v : Bool} {off : Int} {tgt : Nat} (hdg : decode cc pc = .ok (.ifCond .ne off, 3)) (ht : (pc : Int) + off = (tgt : Int)) (k1 : v = true → W p l e R s m args below meth c H locs cells slots Q (F0 m tgt ls rest)) (k2 : v = false → W p l e R s m args below meth c H locs cells slots Q (F0 m (pc + 3) ls rest)) : W p l e R s m args below meth c H locs cells slots Q (F0 m pc ls (.int (qf_b v) :: rest)) :=
  lv_if_ne hx hb hdg ht (fun h => k1 ((qf_b_ne v).mp h)) (fun h => k2 (by revert h; cases v <;> simp [qf_b]))
theorem qf_ifeq (hx : p.tables.exec = Jvm.exec) (hb : c.code = cc) {v : Bool} {off : Int} {tgt : Nat} (hdg : decode cc pc = .ok (.ifCond .eq off, 3)) (ht : (pc : Int) + off = (tgt : Int)) (k1 : v = false → W p l e R s m args below meth c H locs cells slots Q (F0 m tgt ls rest)) (k2 : v = true → W p l e R s m args below meth c H locs cells slots Q (F0 m (pc + 3) ls rest)) : W p l e R s m args below meth c H locs cells slots Q (F0 m pc ls (.int (qf_b v) :: rest)) :=
  lv_if_eq hx hb hdg ht (fun h => k1 ((qf_b_eq v).mp h)) (fun h => k2 (by revert h; cases v <;> simp [qf_b]))
theorem qf_icmpge (hx : p.tables.exec = Jvm.exec) (hb : c.code = cc) {a b : Nat} (ha2 : a < 2 ^ 31) (hb2 : b < 2 ^ 31) {off : Int} {tgt : Nat} (hdg : decode cc pc = .ok (.if_icmp .ge off, 3)) (ht : (pc : Int) + off = (tgt : Int)) (k1 : b ≤ a → W p l e R s m args below meth c H locs cells slots Q (F0 m tgt ls rest)) (k2 : a < b → W p l e R s m args below meth c H locs cells slots Q (F0 m (pc + 3) ls rest)) : W p l e R s m args below meth c H locs cells slots Q (F0 m pc ls (.int (nI b) :: .int (nI a) :: rest)) :=
  lv_icmp_ge hx hb hdg ht (fun h => k1 ((nI_leI hb2 ha2).mp h)) (fun h => k2 (Nat.lt_of_not_le fun q => h ((nI_leI hb2 ha2).mpr q)))
theorem qf_icmplt (hx : p.tables.exec = Jvm.exec) (hb : c.code = cc) {a b : Nat} (ha2 : a < 2 ^ 31) (hb2 : b < 2 ^ 31) {off : Int} {tgt : Nat} (hdg : decode cc pc = .ok (.if_icmp .lt off, 3)) (ht : (pc : Int) + off = (tgt : Int)) (k1 : a < b → W p l e R s m args below meth c H locs cells slots Q (F0 m tgt ls rest)) (k2 : b ≤ a → W p l e R s m args below meth c H locs cells slots Q (F0 m (pc + 3) ls rest)) : W p l e R s m args below meth c H locs cells slots Q (F0 m pc ls (.int (nI b) :: .int (nI a) :: rest)) :=
  lv_icmp_lt hx hb hdg ht (fun h => k1 ((nI_ltI ha2 hb2).mp h)) (fun h => k2 (Nat.le_of_not_lt fun q => h ((nI_ltI ha2 hb2).mpr q)))
theorem qf_icmple (hx : p.tables.exec = Jvm.exec) (hb : c.code = cc) {a b : Nat} (ha2 : a < 2 ^ 31) (hb2 : b < 2 ^ 31) {off : Int} {tgt : Nat} (hdg : decode cc pc = .ok (.if_icmp .le off, 3)) (ht : (pc : Int) + off = (tgt : Int)) (k1 : a ≤ b → W p l e R s m args below meth c H locs cells slots Q (F0 m tgt ls rest)) (k2 : b < a → W p l e R s m args below meth c H locs cells slots Q (F0 m (pc + 3) ls rest)) : W p l e R s m args below meth c H locs cells slots Q (F0 m pc ls (.int (nI b) :: .int (nI a) :: rest)) :=
  lv_icmp_le hx hb hdg ht (fun h => k1 ((nI_leI ha2 hb2).mp h)) (fun h => k2 (Nat.lt_of_not_le fun q => h ((nI_leI ha2 hb2).mpr q)))
theorem qf_icmpgt (hx : p.tables.exec = Jvm.exec) (hb : c.code = cc) {a b : Nat} (ha2 : a < 2 ^ 31) (hb2 : b < 2 ^ 31) {off : Int} {tgt : Nat} (hdg : decode cc pc = .ok (.if_icmp .gt off, 3)) (ht : (pc : Int) + off = (tgt : Int)) (k1 : b < a → W p l e R s m args below meth c H locs cells slots Q (F0 m tgt ls rest)) (k2 : a ≤ b → W p l e R s m args below meth c H locs cells slots Q (F0 m (pc + 3) ls rest)) : W p l e R s m args below meth c H locs cells slots Q (F0 m pc ls (.int (nI b) :: .int (nI a) :: rest)) :=
  lv_icmp_gt hx hb hdg ht (fun h => k1 ((nI_ltI hb2 ha2).mp h)) (fun h => k2 (Nat.le_of_not_lt fun q => h ((nI_ltI hb2 ha2).mpr q)))
theorem qf_icmpeq (hx : p.tables.exec = Jvm.exec) (hb : c.code = cc) {a b : Nat} (ha2 : a < 2 ^ 31) (hb2 : b < 2 ^ 31) {off : Int} {tgt : Nat} (hdg : decode cc pc = .ok (.if_icmp .eq off, 3)) (ht : (pc : Int) + off = (tgt : Int)) (k1 : a = b → W p l e R s m args below meth c H locs cells slots Q (F0 m tgt ls rest)) (k2 : a ≠ b → W p l e R s m args below meth c H locs cells slots Q (F0 m (pc + 3) ls rest)) : W p l e R s m args below meth c H locs cells slots Q (F0 m pc ls (.int (nI b) :: .int (nI a) :: rest)) :=
  lv_icmp_eq hx hb hdg ht (fun h => k1 ((nI_eq ha2 hb2).mp h)) (fun h => k2 (fun q => h ((nI_eq ha2 hb2).mpr q)))
theorem qf_icmpne (hx : p.tables.exec = Jvm.exec) (hb : c.code = cc) {a b : Nat} (ha2 : a < 2 ^ 31) (hb2 : b < 2 ^ 31) {off : Int} {tgt : Nat} (hdg : decode cc pc = .ok (.if_icmp .ne off, 3)) (ht : (pc : Int) + off = (tgt : Int)) (k1 : a ≠ b → W p l e R s m args below meth c H locs cells slots Q (F0 m tgt ls rest)) (k2 : a = b → W p l e R s m args below meth c H locs cells slots Q (F0 m (pc + 3) ls rest)) : W p l e R s m args below meth c H locs cells slots Q (F0 m pc ls (.int (nI b) :: .int (nI a) :: rest)) :=
  lv_icmp_ne hx hb hdg ht (fun h => k1 (fun q => h ((nI_eq ha2 hb2).mpr q))) (fun h => k2 ((nI_eq ha2 hb2).mp h))
theorem xg_B (S : CallFix p m c cc nL s args lw_all RX0) (hK : va_K (dC, dI) qf_cl (qf_tys dA) s) (hP : va_P (dC, dI) qf_cl (qf_w g dA u) H) (hdg : decode cc pc = .ok (.getfield 7, 3)) (kk : W p l e R s m args below meth c H locs cells slots Q (F0 m (pc + 3) ls (.ref (g 1) :: rest))) : W p l e R s m args below meth c H locs cells slots Q (F0 m pc ls (.ref (g 0) :: rest)) :=
  va_get (D := (dC, dI)) (ci := 0) (v := .ref (g 1)) (C := RX0) (T := TX0) (N := 8) S.1 S.2.1 S.2.2.2.2 in_X0 S.2.2.2.1 hK hP 0 rfl rfl 0 (by decide) (S.2.2.2.2 _ q31) (fun _ h9 => h9) rfl hdg kk
theorem xg_H (S : CallFix p m c cc nL s args lw_all RX0) (hK : va_K (dC, dI) qf_cl (qf_tys dA) s) (hP : va_P (dC, dI) qf_cl (qf_w g dA u) H) (hdg : decode cc pc = .ok (.getfield 13, 3)) (kk : W p l e R s m args below meth c H locs cells slots Q (F0 m (pc + 3) ls (.ref (g 2) :: rest))) : W p l e R s m args below meth c H locs cells slots Q (F0 m pc ls (.ref (g 0) :: rest)) :=
  va_get (D := (dC, dI)) (ci := 0) (v := .ref (g 2)) (C := RX0) (T := TX0) (N := 8) S.1 S.2.1 S.2.2.2.2 in_X0 S.2.2.2.1 hK hP 0 rfl rfl 1 (by decide) (S.2.2.2.2 _ q32) (fun _ h9 => h9) rfl hdg kk
theorem xg_L (S : CallFix p m c cc nL s args lw_all RX0) (hK : va_K (dC, dI) qf_cl (qf_tys dA) s) (hP : va_P (dC, dI) qf_cl (qf_w g dA u) H) (hdg : decode cc pc = .ok (.getfield 16, 3)) (kk : W p l e R s m args below meth c H locs cells slots Q (F0 m (pc + 3) ls (.ref (g 3) :: rest))) : W p l e R s m args below meth c H locs cells slots Q (F0 m pc ls (.ref (g 0) :: rest)) :=
  va_get (D := (dC, dI)) (ci := 0) (v := .ref (g 3)) (C := RX0) (T := TX0) (N := 8) S.1 S.2.1 S.2.2.2.2 in_X0 S.2.2.2.1 hK hP 0 rfl rfl 2 (by decide) (S.2.2.2.2 _ q33) (fun _ h9 => h9) rfl hdg kk
theorem xg_N (S : CallFix p m c cc nL s args lw_all RX0) (hK : va_K (dC, dI) qf_cl (qf_tys dA) s) (hP : va_P (dC, dI) qf_cl (qf_w g dA u) H) (hdg : decode cc pc = .ok (.getfield 19, 3)) (kk : W p l e R s m args below meth c H locs cells slots Q (F0 m (pc + 3) ls (.ref (g 4) :: rest))) : W p l e R s m args below meth c H locs cells slots Q (F0 m pc ls (.ref (g 0) :: rest)) :=
  va_get (D := (dC, dI)) (ci := 0) (v := .ref (g 4)) (C := RX0) (T := TX0) (N := 8) S.1 S.2.1 S.2.2.2.2 in_X0 S.2.2.2.1 hK hP 0 rfl rfl 3 (by decide) (S.2.2.2.2 _ q34) (fun _ h9 => h9) rfl hdg kk
theorem xg_O (S : CallFix p m c cc nL s args lw_all RX0) (hK : va_K (dC, dI) qf_cl (qf_tys dA) s) (hP : va_P (dC, dI) qf_cl (qf_w g dA u) H) (hdg : decode cc pc = .ok (.getfield 23, 3)) (kk : W p l e R s m args below meth c H locs cells slots Q (F0 m (pc + 3) ls (.ref (g 5) :: rest))) : W p l e R s m args below meth c H locs cells slots Q (F0 m pc ls (.ref (g 0) :: rest)) :=
  va_get (D := (dC, dI)) (ci := 0) (v := .ref (g 5)) (C := RX0) (T := TX0) (N := 8) S.1 S.2.1 S.2.2.2.2 in_X0 S.2.2.2.1 hK hP 0 rfl rfl 4 (by decide) (S.2.2.2.2 _ q35) (fun _ h9 => h9) rfl hdg kk
theorem xg_P (S : CallFix p m c cc nL s args lw_all RX0) (hK : va_K (dC, dI) qf_cl (qf_tys dA) s) (hP : va_P (dC, dI) qf_cl (qf_w g dA u) H) (hdg : decode cc pc = .ok (.getfield 26, 3)) (kk : W p l e R s m args below meth c H locs cells slots Q (F0 m (pc + 3) ls (.ref (g 6) :: rest))) : W p l e R s m args below meth c H locs cells slots Q (F0 m pc ls (.ref (g 0) :: rest)) :=
  va_get (D := (dC, dI)) (ci := 0) (v := .ref (g 6)) (C := RX0) (T := TX0) (N := 8) S.1 S.2.1 S.2.2.2.2 in_X0 S.2.2.2.1 hK hP 0 rfl rfl 5 (by decide) (S.2.2.2.2 _ q36) (fun _ h9 => h9) rfl hdg kk
theorem xg_D (S : CallFix p m c cc nL s args lw_all RX0) (hK : va_K (dC, dI) qf_cl (qf_tys dA) s) (hP : va_P (dC, dI) qf_cl (qf_w g dA u) H) (hdg : decode cc pc = .ok (.getfield 29, 3)) (kk : W p l e R s m args below meth c H locs cells slots Q (F0 m (pc + 3) ls (.ref (g 7) :: rest))) : W p l e R s m args below meth c H locs cells slots Q (F0 m pc ls (.ref (g 0) :: rest)) :=
  va_get (D := (dC, dI)) (ci := 0) (v := .ref (g 7)) (C := RX0) (T := TX0) (N := 8) S.1 S.2.1 S.2.2.2.2 in_X0 S.2.2.2.1 hK hP 0 rfl rfl 7 (by decide) (S.2.2.2.2 _ q38) (fun _ h9 => h9) rfl hdg kk
theorem xg_C (S : CallFix p m c cc nL s args lw_all RX0) (hK : va_K (dC, dI) qf_cl (qf_tys dA) s) (hP : va_P (dC, dI) qf_cl (qf_w g dA u) H) (hdg : decode cc pc = .ok (.getfield 59, 3)) (kk : W p l e R s m args below meth c H locs cells slots Q (F0 m (pc + 3) ls (.int (nI u.2.1) :: rest))) : W p l e R s m args below meth c H locs cells slots Q (F0 m pc ls (.ref (g 0) :: rest)) :=
  va_get (D := (dC, dI)) (ci := 0) (v := .int (nI u.2.1)) (C := RX0) (T := TX0) (N := 8) S.1 S.2.1 S.2.2.2.2 in_X0 S.2.2.2.1 hK hP 0 rfl rfl 6 (by decide) (S.2.2.2.2 _ q37) (fun _ h9 => h9) rfl hdg kk
theorem xl_B {f : Nat} (S : CallFix p m c cc nL s args lw_all RX0) (hK : va_K (dC, dI) qf_cl (qf_tys dA) s) (hP : va_P (dC, dI) qf_cl (qf_w g dA u) H) (hf : f < 2) (hdg : decode cc pc = .ok (.baload, 1)) (kk : W p l e R s m args below meth c H locs cells slots Q (F0 m (pc + 1) ls (.int (nI (qf_B (u.1 f))) :: rest))) : W p l e R s m args below meth c H locs cells slots Q (F0 m pc ls (.int (nI f) :: .ref (g 1) :: rest)) := by
  refine va_bald S.1 S.2.1 hK hP 1 0 rfl rfl (vp_in_nI hf (by decide)) hdg ?_
  rw [nI_clamp (by omega)]
  exact kk
theorem xl_H {f : Nat} (S : CallFix p m c cc nL s args lw_all RX0) (hK : va_K (dC, dI) qf_cl (qf_tys dA) s) (hP : va_P (dC, dI) qf_cl (qf_w g dA u) H) (hf : f < 2) (hdg : decode cc pc = .ok (.baload, 1)) (kk : W p l e R s m args below meth c H locs cells slots Q (F0 m (pc + 1) ls (.int (nI (qf_H (u.1 f))) :: rest))) : W p l e R s m args below meth c H locs cells slots Q (F0 m pc ls (.int (nI f) :: .ref (g 2) :: rest)) := by
  refine va_bald S.1 S.2.1 hK hP 2 1 rfl rfl (vp_in_nI hf (by decide)) hdg ?_
  rw [nI_clamp (by omega)]
  exact kk
theorem xl_L {f x : Nat} {i : Int32} (S : CallFix p m c cc nL s args lw_all RX0) (hK : va_K (dC, dI) qf_cl (qf_tys dA) s) (hP : va_P (dC, dI) qf_cl (qf_w g dA u) H) (hi : i = nI (64 * f + x)) (hf : f < 2) (hx : x < 64) (hdg : decode cc pc = .ok (.baload, 1)) (kk : W p l e R s m args below meth c H locs cells slots Q (F0 m (pc + 1) ls (.int (nI (qf_L (u.1 f) x)) :: rest))) : W p l e R s m args below meth c H locs cells slots Q (F0 m pc ls (.int i :: .ref (g 3) :: rest)) := by
  subst hi
  refine va_bald S.1 S.2.1 hK hP 3 2 rfl rfl (vp_in_nI (by omega) (by decide)) hdg ?_
  rw [nI_clamp (by omega)]
  show W p l e R s m args below meth c H locs cells slots Q (F0 m (pc + 1) ls (.int (nI (qf_L (u.1 ((64 * f + x) / 64)) ((64 * f + x) % 64))) :: rest))
  have a1 : (64 * f + x) / 64 = f := by omega
  have a2 : (64 * f + x) % 64 = x := by omega
  rw [a1, a2]
  exact kk
theorem xl_N {f x : Nat} {i : Int32} (S : CallFix p m c cc nL s args lw_all RX0) (hK : va_K (dC, dI) qf_cl (qf_tys dA) s) (hP : va_P (dC, dI) qf_cl (qf_w g dA u) H) (hi : i = nI (64 * f + x)) (hf : f < 2) (hx : x < 64) (hdg : decode cc pc = .ok (.baload, 1)) (kk : W p l e R s m args below meth c H locs cells slots Q (F0 m (pc + 1) ls (.int (qf_b (qf_N (u.1 f) x)) :: rest))) : W p l e R s m args below meth c H locs cells slots Q (F0 m pc ls (.int i :: .ref (g 4) :: rest)) := by
  subst hi
  refine va_zald S.1 S.2.1 hK hP 4 3 rfl rfl (vp_in_nI (by omega) (by decide)) hdg ?_
  rw [nI_clamp (by omega)]
  show W p l e R s m args below meth c H locs cells slots Q (F0 m (pc + 1) ls (.int (qf_b (qf_N (u.1 ((64 * f + x) / 64)) ((64 * f + x) % 64))) :: rest))
  have a1 : (64 * f + x) / 64 = f := by omega
  have a2 : (64 * f + x) % 64 = x := by omega
  rw [a1, a2]
  exact kk
theorem xl_O {f x : Nat} {i : Int32} (S : CallFix p m c cc nL s args lw_all RX0) (hK : va_K (dC, dI) qf_cl (qf_tys dA) s) (hP : va_P (dC, dI) qf_cl (qf_w g dA u) H) (hi : i = nI (64 * f + x)) (hf : f < 2) (hx : x < 64) (hdg : decode cc pc = .ok (.baload, 1)) (kk : W p l e R s m args below meth c H locs cells slots Q (F0 m (pc + 1) ls (.int (qf_b (qf_O (u.1 f) x)) :: rest))) : W p l e R s m args below meth c H locs cells slots Q (F0 m pc ls (.int i :: .ref (g 5) :: rest)) := by
  subst hi
  refine va_zald S.1 S.2.1 hK hP 5 4 rfl rfl (vp_in_nI (by omega) (by decide)) hdg ?_
  rw [nI_clamp (by omega)]
  show W p l e R s m args below meth c H locs cells slots Q (F0 m (pc + 1) ls (.int (qf_b (qf_O (u.1 ((64 * f + x) / 64)) ((64 * f + x) % 64))) :: rest))
  have a1 : (64 * f + x) / 64 = f := by omega
  have a2 : (64 * f + x) % 64 = x := by omega
  rw [a1, a2]
  exact kk
theorem xl_P {f x : Nat} {i : Int32} (S : CallFix p m c cc nL s args lw_all RX0) (hK : va_K (dC, dI) qf_cl (qf_tys dA) s) (hP : va_P (dC, dI) qf_cl (qf_w g dA u) H) (hi : i = nI (64 * f + x)) (hf : f < 2) (hx : x < 64) (hdg : decode cc pc = .ok (.baload, 1)) (kk : W p l e R s m args below meth c H locs cells slots Q (F0 m (pc + 1) ls (.int (qf_b (qf_P (u.1 f) x)) :: rest))) : W p l e R s m args below meth c H locs cells slots Q (F0 m pc ls (.int i :: .ref (g 6) :: rest)) := by
  subst hi
  refine va_zald S.1 S.2.1 hK hP 6 5 rfl rfl (vp_in_nI (by omega) (by decide)) hdg ?_
  rw [nI_clamp (by omega)]
  show W p l e R s m args below meth c H locs cells slots Q (F0 m (pc + 1) ls (.int (qf_b (qf_P (u.1 ((64 * f + x) / 64)) ((64 * f + x) % 64))) :: rest))
  have a1 : (64 * f + x) / 64 = f := by omega
  have a2 : (64 * f + x) % 64 = x := by omega
  rw [a1, a2]
  exact kk
theorem xl_D {j : Nat} (S : CallFix p m c cc nL s args lw_all RX0) (hK : va_K (dC, dI) qf_cl (qf_tys dA) s) (hP : va_P (dC, dI) qf_cl (qf_w g dA u) H) (hj : j < 64) (hdg : decode cc pc = .ok (.saload, 1)) (kk : W p l e R s m args below meth c H locs cells slots Q (F0 m (pc + 1) ls (.int (nI (u.2.2 j)) :: rest))) : W p l e R s m args below meth c H locs cells slots Q (F0 m pc ls (.int (nI j) :: .ref (g 7) :: rest)) := by
  refine va_sald S.1 S.2.1 hK hP 7 6 rfl rfl (vp_in_nI hj (by decide)) hdg ?_
  rw [nI_clamp (by omega)]
  exact kk
theorem xs_B {f v : Nat} {y : Int32} (S : CallFix p m c cc nL s args lw_all RX0) (hK : va_K (dC, dI) qf_cl (qf_tys dA) s) (hP : va_P (dC, dI) qf_cl (qf_w g dA u) H) (hg : qf_dj g) (hS : va_S (qf_A g) H0 H locs) (hy : y = nI v) (hv : v < 128) (hf : f < 2) (hdg : decode cc pc = .ok (.bastore, 1)) (kk : ∀ (H1 : Heap) (locs1 : List Loc), va_P (dC, dI) qf_cl (qf_w g dA (va_up u.1 f (qf_setB (u.1 f) v), u.2)) H1 → va_S (qf_A g) H0 H1 locs1 → W p l e R s m args below meth c H1 locs1 cells slots Q (F0 m (pc + 1) ls rest)) : W p l e R s m args below meth c H locs cells slots Q (F0 m pc ls (.int y :: .int (nI f) :: .ref (g 1) :: rest)) := by
  subst hy
  refine va_bast S.1 S.2.1 hK hP (qf_D hg dA u) hS 1 0 rfl rfl (vp_in_nI hf (by decide)) hdg (fun H1 locs1 hP1 _ hS1 => kk H1 locs1 ?_ hS1)
  rw [nI_clamp (by omega), qf_byte hv] at hP1
  refine qf_w_of (u := (va_up u.1 f (qf_setB (u.1 f) v), u.2)) hP1 ?_ (fun j => qf_same (fun G => nI (qf_H G)) u.1 f _ j rfl) (fun j => qf_same (fun G => nI (qf_L G (j % 64))) u.1 f _ (j / 64) rfl) (fun j => qf_same (fun G => qf_b (qf_N G (j % 64))) u.1 f _ (j / 64) rfl) (fun j => qf_same (fun G => qf_b (qf_O G (j % 64))) u.1 f _ (j / 64) rfl) (fun j => qf_same (fun G => qf_b (qf_P G (j % 64))) u.1 f _ (j / 64) rfl) rfl (fun _ => rfl)
  intro j
  by_cases e : j = f
  · simp [upd, va_up, e, qf_setB]
  · simp [upd, va_up, e]
theorem xs_H {f v : Nat} {y : Int32} (S : CallFix p m c cc nL s args lw_all RX0) (hK : va_K (dC, dI) qf_cl (qf_tys dA) s) (hP : va_P (dC, dI) qf_cl (qf_w g dA u) H) (hg : qf_dj g) (hS : va_S (qf_A g) H0 H locs) (hy : y = nI v) (hv : v < 128) (hf : f < 2) (hdg : decode cc pc = .ok (.bastore, 1)) (kk : ∀ (H1 : Heap) (locs1 : List Loc), va_P (dC, dI) qf_cl (qf_w g dA (va_up u.1 f (qf_setH (u.1 f) v), u.2)) H1 → va_S (qf_A g) H0 H1 locs1 → W p l e R s m args below meth c H1 locs1 cells slots Q (F0 m (pc + 1) ls rest)) : W p l e R s m args below meth c H locs cells slots Q (F0 m pc ls (.int y :: .int (nI f) :: .ref (g 2) :: rest)) := by
  subst hy
  refine va_bast S.1 S.2.1 hK hP (qf_D hg dA u) hS 2 1 rfl rfl (vp_in_nI hf (by decide)) hdg (fun H1 locs1 hP1 _ hS1 => kk H1 locs1 ?_ hS1)
  rw [nI_clamp (by omega), qf_byte hv] at hP1
  refine qf_w_of (u := (va_up u.1 f (qf_setH (u.1 f) v), u.2)) hP1 (fun j => qf_same (fun G => nI (qf_B G)) u.1 f _ j rfl) ?_ (fun j => qf_same (fun G => nI (qf_L G (j % 64))) u.1 f _ (j / 64) rfl) (fun j => qf_same (fun G => qf_b (qf_N G (j % 64))) u.1 f _ (j / 64) rfl) (fun j => qf_same (fun G => qf_b (qf_O G (j % 64))) u.1 f _ (j / 64) rfl) (fun j => qf_same (fun G => qf_b (qf_P G (j % 64))) u.1 f _ (j / 64) rfl) rfl (fun _ => rfl)
  intro j
  by_cases e : j = f
  · simp [upd, va_up, e, qf_setH]
  · simp [upd, va_up, e]
theorem xs_L {f x : Nat} {v : Nat} {i y : Int32} (S : CallFix p m c cc nL s args lw_all RX0) (hK : va_K (dC, dI) qf_cl (qf_tys dA) s) (hP : va_P (dC, dI) qf_cl (qf_w g dA u) H) (hg : qf_dj g) (hS : va_S (qf_A g) H0 H locs) (hi : i = nI (64 * f + x)) (hy : y = nI v) (hv : v < 128) (hf : f < 2) (hx : x < 64) (hdg : decode cc pc = .ok (.bastore, 1)) (kk : ∀ (H1 : Heap) (locs1 : List Loc), va_P (dC, dI) qf_cl (qf_w g dA (va_up u.1 f (qf_setL (u.1 f) x v), u.2)) H1 → va_S (qf_A g) H0 H1 locs1 → W p l e R s m args below meth c H1 locs1 cells slots Q (F0 m (pc + 1) ls rest)) : W p l e R s m args below meth c H locs cells slots Q (F0 m pc ls (.int y :: .int i :: .ref (g 3) :: rest)) := by
  subst hi
  subst hy
  refine va_bast S.1 S.2.1 hK hP (qf_D hg dA u) hS 3 2 rfl rfl (vp_in_nI (by omega) (by decide)) hdg (fun H1 locs1 hP1 _ hS1 => kk H1 locs1 ?_ hS1)
  rw [nI_clamp (by omega), qf_byte hv] at hP1
  exact qf_w_of (u := (va_up u.1 f (qf_setL (u.1 f) x v), u.2)) hP1 (fun j => qf_same (fun G => nI (qf_B G)) u.1 f _ j rfl) (fun j => qf_same (fun G => nI (qf_H G)) u.1 f _ j rfl) (qf_chg qf_L nI u.1 f x _ v hx rfl _ rfl) (fun j => qf_same (fun G => qf_b (qf_N G (j % 64))) u.1 f _ (j / 64) rfl) (fun j => qf_same (fun G => qf_b (qf_O G (j % 64))) u.1 f _ (j / 64) rfl) (fun j => qf_same (fun G => qf_b (qf_P G (j % 64))) u.1 f _ (j / 64) rfl) rfl (fun _ => rfl)
theorem xs_N {f x : Nat} {v : Bool} {i y : Int32} (S : CallFix p m c cc nL s args lw_all RX0) (hK : va_K (dC, dI) qf_cl (qf_tys dA) s) (hP : va_P (dC, dI) qf_cl (qf_w g dA u) H) (hg : qf_dj g) (hS : va_S (qf_A g) H0 H locs) (hi : i = nI (64 * f + x)) (hy : y = qf_b v) (hf : f < 2) (hx : x < 64) (hdg : decode cc pc = .ok (.bastore, 1)) (kk : ∀ (H1 : Heap) (locs1 : List Loc), va_P (dC, dI) qf_cl (qf_w g dA (va_up u.1 f (qf_setN (u.1 f) x v), u.2)) H1 → va_S (qf_A g) H0 H1 locs1 → W p l e R s m args below meth c H1 locs1 cells slots Q (F0 m (pc + 1) ls rest)) : W p l e R s m args below meth c H locs cells slots Q (F0 m pc ls (.int y :: .int i :: .ref (g 4) :: rest)) := by
  subst hi
  subst hy
  refine va_zast S.1 S.2.1 hK hP (qf_D hg dA u) hS 4 3 rfl rfl (vp_in_nI (by omega) (by decide)) hdg (fun H1 locs1 hP1 _ hS1 => kk H1 locs1 ?_ hS1)
  rw [nI_clamp (by omega), qf_b_nar] at hP1
  exact qf_w_of (u := (va_up u.1 f (qf_setN (u.1 f) x v), u.2)) hP1 (fun j => qf_same (fun G => nI (qf_B G)) u.1 f _ j rfl) (fun j => qf_same (fun G => nI (qf_H G)) u.1 f _ j rfl) (fun j => qf_same (fun G => nI (qf_L G (j % 64))) u.1 f _ (j / 64) rfl) (qf_chg qf_N qf_b u.1 f x _ v hx rfl _ rfl) (fun j => qf_same (fun G => qf_b (qf_O G (j % 64))) u.1 f _ (j / 64) rfl) (fun j => qf_same (fun G => qf_b (qf_P G (j % 64))) u.1 f _ (j / 64) rfl) rfl (fun _ => rfl)
theorem xs_O {f x : Nat} {v : Bool} {i y : Int32} (S : CallFix p m c cc nL s args lw_all RX0) (hK : va_K (dC, dI) qf_cl (qf_tys dA) s) (hP : va_P (dC, dI) qf_cl (qf_w g dA u) H) (hg : qf_dj g) (hS : va_S (qf_A g) H0 H locs) (hi : i = nI (64 * f + x)) (hy : y = qf_b v) (hf : f < 2) (hx : x < 64) (hdg : decode cc pc = .ok (.bastore, 1)) (kk : ∀ (H1 : Heap) (locs1 : List Loc), va_P (dC, dI) qf_cl (qf_w g dA (va_up u.1 f (qf_setO (u.1 f) x v), u.2)) H1 → va_S (qf_A g) H0 H1 locs1 → W p l e R s m args below meth c H1 locs1 cells slots Q (F0 m (pc + 1) ls rest)) : W p l e R s m args below meth c H locs cells slots Q (F0 m pc ls (.int y :: .int i :: .ref (g 5) :: rest)) := by
  subst hi
  subst hy
  refine va_zast S.1 S.2.1 hK hP (qf_D hg dA u) hS 5 4 rfl rfl (vp_in_nI (by omega) (by decide)) hdg (fun H1 locs1 hP1 _ hS1 => kk H1 locs1 ?_ hS1)
  rw [nI_clamp (by omega), qf_b_nar] at hP1
  exact qf_w_of (u := (va_up u.1 f (qf_setO (u.1 f) x v), u.2)) hP1 (fun j => qf_same (fun G => nI (qf_B G)) u.1 f _ j rfl) (fun j => qf_same (fun G => nI (qf_H G)) u.1 f _ j rfl) (fun j => qf_same (fun G => nI (qf_L G (j % 64))) u.1 f _ (j / 64) rfl) (fun j => qf_same (fun G => qf_b (qf_N G (j % 64))) u.1 f _ (j / 64) rfl) (qf_chg qf_O qf_b u.1 f x _ v hx rfl _ rfl) (fun j => qf_same (fun G => qf_b (qf_P G (j % 64))) u.1 f _ (j / 64) rfl) rfl (fun _ => rfl)
theorem xs_P {f x : Nat} {v : Bool} {i y : Int32} (S : CallFix p m c cc nL s args lw_all RX0) (hK : va_K (dC, dI) qf_cl (qf_tys dA) s) (hP : va_P (dC, dI) qf_cl (qf_w g dA u) H) (hg : qf_dj g) (hS : va_S (qf_A g) H0 H locs) (hi : i = nI (64 * f + x)) (hy : y = qf_b v) (hf : f < 2) (hx : x < 64) (hdg : decode cc pc = .ok (.bastore, 1)) (kk : ∀ (H1 : Heap) (locs1 : List Loc), va_P (dC, dI) qf_cl (qf_w g dA (va_up u.1 f (qf_setP (u.1 f) x v), u.2)) H1 → va_S (qf_A g) H0 H1 locs1 → W p l e R s m args below meth c H1 locs1 cells slots Q (F0 m (pc + 1) ls rest)) : W p l e R s m args below meth c H locs cells slots Q (F0 m pc ls (.int y :: .int i :: .ref (g 6) :: rest)) := by
  subst hi
  subst hy
  refine va_zast S.1 S.2.1 hK hP (qf_D hg dA u) hS 6 5 rfl rfl (vp_in_nI (by omega) (by decide)) hdg (fun H1 locs1 hP1 _ hS1 => kk H1 locs1 ?_ hS1)
  rw [nI_clamp (by omega), qf_b_nar] at hP1
  exact qf_w_of (u := (va_up u.1 f (qf_setP (u.1 f) x v), u.2)) hP1 (fun j => qf_same (fun G => nI (qf_B G)) u.1 f _ j rfl) (fun j => qf_same (fun G => nI (qf_H G)) u.1 f _ j rfl) (fun j => qf_same (fun G => nI (qf_L G (j % 64))) u.1 f _ (j / 64) rfl) (fun j => qf_same (fun G => qf_b (qf_N G (j % 64))) u.1 f _ (j / 64) rfl) (fun j => qf_same (fun G => qf_b (qf_O G (j % 64))) u.1 f _ (j / 64) rfl) (qf_chg qf_P qf_b u.1 f x _ v hx rfl _ rfl) rfl (fun _ => rfl)
theorem xs_D {j v : Nat} {y : Int32} (S : CallFix p m c cc nL s args lw_all RX0) (hK : va_K (dC, dI) qf_cl (qf_tys dA) s) (hP : va_P (dC, dI) qf_cl (qf_w g dA u) H) (hg : qf_dj g) (hS : va_S (qf_A g) H0 H locs) (hy : y = nI v) (hv : v < 256) (hj : j < 64) (hdg : decode cc pc = .ok (.sastore, 1)) (kk : ∀ (H1 : Heap) (locs1 : List Loc), va_P (dC, dI) qf_cl (qf_w g dA (u.1, u.2.1, va_up u.2.2 j v)) H1 → va_S (qf_A g) H0 H1 locs1 → W p l e R s m args below meth c H1 locs1 cells slots Q (F0 m (pc + 1) ls rest)) : W p l e R s m args below meth c H locs cells slots Q (F0 m pc ls (.int y :: .int (nI j) :: .ref (g 7) :: rest)) := by
  subst hy
  refine va_sast S.1 S.2.1 hK hP (qf_D hg dA u) hS 7 6 rfl rfl (vp_in_nI hj (by decide)) hdg (fun H1 locs1 hP1 _ hS1 => kk H1 locs1 ?_ hS1)
  rw [nI_clamp (by omega), qf_short hv] at hP1
  refine qf_w_of (u := (u.1, u.2.1, va_up u.2.2 j v)) hP1 (fun _ => rfl) (fun _ => rfl) (fun _ => rfl) (fun _ => rfl) (fun _ => rfl) (fun _ => rfl) rfl ?_
  intro i
  by_cases e : i = j
  · simp [upd, va_up, e]
  · simp [upd, va_up, e]
theorem xs_C {v : Nat} {y : Int32} (S : CallFix p m c cc nL s args lw_all RX0) (hK : va_K (dC, dI) qf_cl (qf_tys dA) s) (hP : va_P (dC, dI) qf_cl (qf_w g dA u) H) (hg : qf_dj g) (hS : va_S (qf_A g) H0 H locs) (hy : y = nI v) (hdg : decode cc pc = .ok (.putfield 59, 3)) (kk : ∀ (H1 : Heap) (locs1 : List Loc), va_P (dC, dI) qf_cl (qf_w g dA (u.1, v, u.2.2)) H1 → va_S (qf_A g) H0 H1 locs1 → W p l e R s m args below meth c H1 locs1 cells slots Q (F0 m (pc + 3) ls rest)) : W p l e R s m args below meth c H locs cells slots Q (F0 m pc ls (.int y :: .ref (g 0) :: rest)) := by
  subst hy
  exact va_put (D := (dC, dI)) (ci := 0) (v := .int (nI v)) (ty := .int) (C := RX0) (T := TX0) (N := 8) S.1 S.2.1 S.2.2.2.2 in_X0 tyX0 tyX0_ok nmX0 S.2.2.2.1 hK hP (qf_D hg dA u) hS 0 rfl rfl 6 (by decide) (S.2.2.2.2 _ q37) (fun _ h9 => h9) rfl (by decide +kernel) rfl rfl (Nat.le_of_ble_eq_true rfl) hdg (fun H1 locs1 hP1 _ hS1 => kk H1 locs1 hP1 hS1)
end QFR
/-- a contract's start: the object, the arguments, the world -/
def qf_Pc (g : Nat → Nat) (dA : Nat → ClassId) (dC : Nat → ClassId) (dI : Nat → Nat → Nat) (u : qf_QS) (As : List Value) : Array Value → State → Prop := va_Pc (.ref (g 0) :: As) (fun U => va_P (dC, dI) qf_cl (qf_w g dA u) U.heap ∧ va_K (dC, dI) qf_cl (qf_tys dA) U)
def qf_Bt (g : Nat → Nat) (dA : Nat → ClassId) (dC : Nat → ClassId) (dI : Nat → Nat → Nat) (u : qf_QS) (t : State) : Prop := va_P (dC, dI) qf_cl (qf_w g dA u) t.heap
theorem qf_blind {g : Nat → Nat} {dA : Nat → ClassId} {dC : Nat → ClassId} {dI : Nat → Nat → Nat} {u : qf_QS} {As : List Value} : FrameBlind (qf_Pc g dA dC dI u As) := fun a U g' mk q => ⟨q.1, q.2.1, va_K.moved (u := U) (U := U.calling g' mk a) (Vm.Alike.refl U.vm) q.2.2⟩
section QFC
variable {p : Program} {l : Launch} {e : Env} {R : Room} {s : State} {m : MethodId} {args : Array Value} {below : List Frame} {meth : Method} {c : Code} {H H0 : Heap} {locs : List Loc} {cells slots : Nat} {Q : State → Prop} {cc : ByteArray} {pc nL : Nat} {ls : Array Slot} {rest : List Value} {g : Nat → Nat} {dC : Nat → ClassId} {dI : Nat → Nat → Nat} {dA : Nat → ClassId} {u : qf_QS}
variable {y : MethodName} {b : ByteArray} {L n idx : Nat} {rt : FieldType} {rm : Room} {As : List Value} {own : String}
theorem qf_pre (hK : va_K (dC, dI) qf_cl (qf_tys dA) s) (hP : va_P (dC, dI) qf_cl (qf_w g dA u) H) : PreV s H RX0 (g 0) (qf_Pc g dA dC dI u As) As :=
  ⟨qf_blind, va_recv hK hP (ci := 0) (q0 := 0) rfl rfl, fun U hU hW => ⟨rfl, by rw [hU]; exact hP, va_K.moved hW.alike hK⟩⟩
/-- a call of a method that only reads -/
theorem qf_callR {post : Int32 → Prop} (S : CallFix p m c cc nL s args lw_all own) (hK : va_K (dC, dI) qf_cl (qf_tys dA) s) (hP : va_P (dC, dI) qf_cl (qf_w g dA u) H) (hM : Met l y (ws_ y b L (some rt)) rm (qf_Pc g dA dC dI u As) (vp_Si post) 0 0 (fun _ => False)) (hw : GoodIn lw_all (wsV own idx RX0 y (ws_ y b L (some rt)))) (hrc : rm.cells = 0) (hrs : rm.slots = 0) (hd : y.cls = RX0 ∧ y.cls ≠ "java/lang/invoke/MethodHandle" ∧ y.cls ≠ "java/lang/invoke/VarHandle" ∧ (parseMethodDescriptor y.desc).map (fun d => d.parameters.length) = some n) (hR : qf_RM R (rm.frames + 1) (8 + (L + 11) + rm.locals)) (hn : As.length = n) (hsz : ls.size = nL) (hroom : (rest.map fun v => v.category).sum ≤ 8) (hdg : decode cc pc = .ok (.invokevirtual idx, 3)) (hcs : cells ≤ R.cells ∧ slots ≤ R.slots) {st : List Value} (hst : st = As.reverse ++ .ref (g 0) :: rest) (kk : ∀ r, post r → W p l e R s m args below meth c H locs cells slots Q (F0 m (pc + 3) ls (.int r :: rest))) : W p l e R s m args below meth c H locs cells slots Q (F0 m pc ls st) :=
  vp_callSi (W.runV S hM (cwV n S.2.2.2.2 hw rfl hrc hrs hd hR) (qf_pre hK hP) rfl hn hsz hst (lv_room hroom) hdg hcs) kk
/-- a call of a method that writes the filter's cells and answers nothing -/
theorem qf_callv {post : qf_QS → Prop} (S : CallFix p m c cc nL s args lw_all own) (hK : va_K (dC, dI) qf_cl (qf_tys dA) s) (hP : va_P (dC, dI) qf_cl (qf_w g dA u) H) {A : Nat → Prop} (hS : va_S A H0 H locs) (hA : ∀ q, qf_A g q → A q) (hM : Met l y (ws_ y b L none) rm (qf_Pc g dA dC dI u As) (va_Qv post (qf_Bt g dA dC dI) (qf_A g)) 0 0 (qf_A g)) (hw : GoodIn lw_all (wsV own idx RX0 y (ws_ y b L none))) (hrc : rm.cells = 0) (hrs : rm.slots = 0) (hd : y.cls = RX0 ∧ y.cls ≠ "java/lang/invoke/MethodHandle" ∧ y.cls ≠ "java/lang/invoke/VarHandle" ∧ (parseMethodDescriptor y.desc).map (fun d => d.parameters.length) = some n) (hR : qf_RM R (rm.frames + 1) (8 + (L + 11) + rm.locals)) (hn : As.length = n) (hsz : ls.size = nL) (hroom : (rest.map fun v => v.category).sum ≤ 8) (hdg : decode cc pc = .ok (.invokevirtual idx, 3)) (hcs : cells ≤ R.cells ∧ slots ≤ R.slots) {st : List Value} (hst : st = As.reverse ++ .ref (g 0) :: rest) (kk : ∀ (u1 : qf_QS) (H1 : Heap) (locs1 : List Loc), post u1 → va_P (dC, dI) qf_cl (qf_w g dA u1) H1 → va_S A H0 H1 locs1 → H.size ≤ H1.size → (∀ q : Nat, q < H.size → ¬ qf_A g q → H1[q]? = H[q]?) → W p l e R s m args below meth c H1 locs1 cells slots Q (F0 m (pc + 3) ls rest)) : W p l e R s m args below meth c H locs cells slots Q (F0 m pc ls st) :=
  va_callv (va_runV S hM (cwV n S.2.2.2.2 hw rfl hrc hrs hd hR) (qf_pre hK hP) rfl hn hsz hst (lv_room hroom) hdg hcs) hS (fun q _ h => hA q h) hA (fun u1 t H1 locs1 ht _ hp hB hz hk hS1 => kk u1 H1 locs1 hp (by rw [← ht]; exact hB) hS1 hz hk)
/-- a call of a method that writes the filter's cells and answers an int -/
theorem qf_calli {post : Int32 → qf_QS → Prop} (S : CallFix p m c cc nL s args lw_all own) (hK : va_K (dC, dI) qf_cl (qf_tys dA) s) (hP : va_P (dC, dI) qf_cl (qf_w g dA u) H) {A : Nat → Prop} (hS : va_S A H0 H locs) (hA : ∀ q, qf_A g q → A q) (hM : Met l y (ws_ y b L (some rt)) rm (qf_Pc g dA dC dI u As) (va_Qi post (qf_Bt g dA dC dI) (qf_A g)) 0 0 (qf_A g)) (hw : GoodIn lw_all (wsV own idx RX0 y (ws_ y b L (some rt)))) (hrc : rm.cells = 0) (hrs : rm.slots = 0) (hd : y.cls = RX0 ∧ y.cls ≠ "java/lang/invoke/MethodHandle" ∧ y.cls ≠ "java/lang/invoke/VarHandle" ∧ (parseMethodDescriptor y.desc).map (fun d => d.parameters.length) = some n) (hR : qf_RM R (rm.frames + 1) (8 + (L + 11) + rm.locals)) (hn : As.length = n) (hsz : ls.size = nL) (hroom : (rest.map fun v => v.category).sum ≤ 8) (hdg : decode cc pc = .ok (.invokevirtual idx, 3)) (hcs : cells ≤ R.cells ∧ slots ≤ R.slots) {st : List Value} (hst : st = As.reverse ++ .ref (g 0) :: rest) (kk : ∀ (r : Int32) (u1 : qf_QS) (H1 : Heap) (locs1 : List Loc), post r u1 → va_P (dC, dI) qf_cl (qf_w g dA u1) H1 → va_S A H0 H1 locs1 → H.size ≤ H1.size → (∀ q : Nat, q < H.size → ¬ qf_A g q → H1[q]? = H[q]?) → W p l e R s m args below meth c H1 locs1 cells slots Q (F0 m (pc + 3) ls (.int r :: rest))) : W p l e R s m args below meth c H locs cells slots Q (F0 m pc ls st) :=
  va_calli (va_runV S hM (cwV n S.2.2.2.2 hw rfl hrc hrs hd hR) (qf_pre hK hP) rfl hn hsz hst (lv_room hroom) hdg hcs) hS (fun q _ h => hA q h) hA (fun r u1 t H1 locs1 ht _ hp hB hz hk hS1 => kk r u1 H1 locs1 hp (by rw [← ht]; exact hB) hS1 hz hk)
/-- a contract out of a walk from pc 0 -/
theorem qf_met {ret : Option FieldType} {Qc : Array Value → State → Outcome → State → Prop} {free : Addr → Prop} (hy : plainName y.cls = true) (hc : y.cls = RX0) (hlen : (lg_sl (.ref (g 0) :: As)).length ≤ L)
    (body : ∀ (p : Program) (e : Env) (s : State) (m : MethodId) (below : List Frame) (meth : Method) (c : Code) (ls : Array Slot), CallFix p m c b L s (Value.ref (g 0) :: As).toArray lw_all RX0 → meth.sig.returnType = ret → meth.locks = false → va_P (dC, dI) qf_cl (qf_w g dA u) s.heap → va_K (dC, dI) qf_cl (qf_tys dA) s → lv_has ls L (lv_args 0 (.ref (g 0) :: As)) → W p l e rm s m (Value.ref (g 0) :: As).toArray below meth c s.heap [] 0 0 (MQ below Qc (Value.ref (g 0) :: As).toArray s 0 0 free) (F0 m 0 ls [])) : Met l y (ws_ y b L ret) rm (qf_Pc g dA dC dI u As) Qc 0 0 free := by
  refine Met.ofW (cc := b) (maxL := L) (ret := ret) hy rfl ?_
  intro p e s m args below meth c s₁ B hml hv
  obtain ⟨rfl, hP, hK⟩ := hv
  have hts := atoms_spec (ws := ws_ y b L ret) B.pre
  have hts : ∀ w ∈ lw_all, w.before _ s = true := fun w h => hts w (List.mem_cons_of_mem _ h)
  have hown : s.vm.findClass RX0 = some m.cls := by rw [← hc]; exact findClass_of_methodNamed B.named
  have hl := lv_entry (.ref (g 0) :: As) (n := L) hlen
  rw [lg_entry_eq]
  exact body p e s m below meth c _ ⟨B.exec, B.bytes, hml, hown, hts⟩ B.returns B.notSynchronized hP hK hl
end QFC
end
section
/-! NUMBERS of the leaf methods, and counting -/
theorem qf_bk_4 {b : Nat} (h : qf_bk b) : b = 3 ∨ b = 4 ∨ b = 5 ∨ b = 6 := by
  obtain ⟨h1, h2⟩ := h
  omega
theorem qf_bk_f {b : Nat} (h : qf_bk b) : ∃ k : Fin 4, b = k.val + 3 := by
  obtain ⟨h1, h2⟩ := h
  exact ⟨⟨b - 3, by omega⟩, by show b = b - 3 + 3; omega⟩
theorem qn_shl1 {b : Nat} (h : qf_bk b) : nI 1 <<< (nI b &&& 31) = nI (2 ^ b) := by
  rcases qf_bk_4 h with e | e | e | e <;> subst e <;> decide
theorem qn_after {b x : Nat} (h : qf_bk b) (hx : x < 64) : nI (x + 1) &&& (nI (2 ^ b) - nI 1) = nI ((x + 1) % 2 ^ b) := by
  have key : ∀ (k : Fin 4) (x : Fin 64), nI (x.val + 1) &&& (nI (2 ^ (k.val + 3)) - nI 1) = nI ((x.val + 1) % 2 ^ (k.val + 3)) := by decide +kernel
  obtain ⟨k, e⟩ := qf_bk_f h
  subst e
  exact key k ⟨x, hx⟩
theorem qn_before {b x : Nat} (h : qf_bk b) (hx : x < 64) : (nI x - nI 1) &&& (nI (2 ^ b) - nI 1) = nI ((x + 2 ^ b - 1) % 2 ^ b) := by
  have key : ∀ (k : Fin 4) (x : Fin 64), (nI x.val - nI 1) &&& (nI (2 ^ (k.val + 3)) - nI 1) = nI ((x.val + 2 ^ (k.val + 3) - 1) % 2 ^ (k.val + 3)) := by decide +kernel
  obtain ⟨k, e⟩ := qf_bk_f h
  subst e
  exact key k ⟨x, hx⟩
theorem qn_slotOf {b p : Nat} (h : qf_bk b) (hp : p < 256) : nI p >>> ((nI 8 - nI b) &&& 31) = nI (p / 2 ^ (8 - b)) := by
  have key : ∀ (k : Fin 4) (p : Fin 256), nI p.val >>> ((nI 8 - nI (k.val + 3)) &&& 31) = nI (p.val / 2 ^ (8 - (k.val + 3))) := by decide +kernel
  obtain ⟨k, e⟩ := qf_bk_f h
  subst e
  exact key k ⟨p, hp⟩
theorem qn_lowerOf {b p : Nat} (h : qf_bk b) (hp : p < 256) : nI p &&& ((nI 1 <<< ((nI 8 - nI b) &&& 31)) - nI 1) = nI (p % 2 ^ (8 - b)) := by
  have key : ∀ (k : Fin 4) (p : Fin 256), nI p.val &&& ((nI 1 <<< ((nI 8 - nI (k.val + 3)) &&& 31)) - nI 1) = nI (p.val % 2 ^ (8 - (k.val + 3))) := by decide +kernel
  obtain ⟨k, e⟩ := qf_bk_f h
  subst e
  exact key k ⟨p, hp⟩
theorem qf_bk_256 {b : Nat} (h : qf_bk b) : 2 ^ b * 2 ^ (8 - b) = 256 := by
  rcases qf_bk_4 h with e | e | e | e <;> subst e <;> decide
theorem qf_bk_R {b : Nat} (h : qf_bk b) : 4 ≤ 2 ^ (8 - b) ∧ 2 ^ (8 - b) ≤ 32 := by
  rcases qf_bk_4 h with e | e | e | e <;> subst e <;> decide
theorem qf_pr_lt {b o w : Nat} (h : qf_bk b) (ho : o < 2 ^ b) (hw : w < 2 ^ (8 - b)) : o * 2 ^ (8 - b) + w < 256 := by
  have h1 := qf_bk_256 h
  have h2 : (o + 1) * 2 ^ (8 - b) ≤ 2 ^ b * 2 ^ (8 - b) := Nat.mul_le_mul_right _ ho
  rw [Nat.add_mul, Nat.one_mul, h1] at h2
  omega
theorem qf_pr_div {R o w : Nat} (hw : w < R) : (o * R + w) / R = o := by
  rw [Nat.add_comm, Nat.add_mul_div_right _ _ (by omega), Nat.div_eq_of_lt hw, Nat.zero_add]
theorem qf_pr_mod {R o w : Nat} (hw : w < R) : (o * R + w) % R = w := by
  rw [Nat.add_comm, Nat.add_mul_mod_self_right, Nat.mod_eq_of_lt hw]
theorem qn_print {b o w : Nat} (h : qf_bk b) (ho : o < 2 ^ b) (hw : w < 2 ^ (8 - b)) : ((nI o <<< ((nI 8 - nI b) &&& 31)) ||| nI w).toInt16.toInt32 = nI (o * 2 ^ (8 - b) + w) := by
  have key : ∀ (k : Fin 4) (p : Fin 256), ((nI (p.val / 2 ^ (8 - (k.val + 3))) <<< ((nI 8 - nI (k.val + 3)) &&& 31)) ||| nI (p.val % 2 ^ (8 - (k.val + 3)))).toInt16.toInt32 = nI p.val := by decide +kernel
  have hp := qf_pr_lt h ho hw
  have e1 := qf_pr_div (o := o) hw
  have e2 := qf_pr_mod (o := o) hw
  obtain ⟨k, e⟩ := qf_bk_f h
  subst e
  have := key k ⟨_, hp⟩
  dsimp only at this
  rw [e1, e2] at this
  exact this
theorem qn_half {b : Nat} (h : qf_bk b) : nI (2 ^ b) / nI 2 - nI 1 = nI (2 ^ b / 2 - 1) := by
  rcases qf_bk_4 h with e | e | e | e <;> subst e <;> decide
theorem qn_sub {a b : Nat} (h : b ≤ a) : nI a - nI b = nI (a - b) := pk_sub h
/-- the fingerprint of an int -/
def qf_hash (x : Int32) : Nat := (x * (-1640531535 : Int32)).toBitVec.toNat / 2 ^ 24
theorem qf_hash_lt (x : Int32) : qf_hash x < 256 := by
  unfold qf_hash
  have := (x * (-1640531535 : Int32)).toBitVec.isLt
  omega
theorem qn_hash (x : Int32) : ((x * (-1640531535 : Int32)).toUInt32 >>> ((nI 24).toUInt32 &&& Int32.toUInt32 31)).toInt32 = nI (qf_hash x) := by
  have h1 := pk_ushr (x * (-1640531535 : Int32)) (nI 24) 24 (by decide)
  have h2 := pk_tn (n := qf_hash x) (by have := qf_hash_lt x; omega)
  exact Int32.toBitVec_inj.mp (BitVec.eq_of_toNat_eq (h1.trans h2.symm))
/-! counting: how many of P a, P (a + 1) .. P (a + n - 1) are true -/
def qf_ct (P : Nat → Bool) (a : Nat) : Nat → Nat
  | 0 => 0
  | n + 1 => qf_ct P a n + (if P (a + n) = true then 1 else 0)
theorem qf_ct_sh {P P' : Nat → Bool} {a b n : Nat} (h : ∀ i, i < n → P (a + i) = P' (b + i)) : qf_ct P a n = qf_ct P' b n := by
  induction n with
  | zero => rfl
  | succ n ih =>
    show qf_ct P a n + _ = qf_ct P' b n + _
    rw [ih (fun i hi => h i (by omega)), h n (by omega)]
theorem qf_ct_app (P : Nat → Bool) (a m n : Nat) : qf_ct P a (m + n) = qf_ct P a m + qf_ct P (a + m) n := by
  induction n with
  | zero => rfl
  | succ n ih =>
    show qf_ct P a (m + n) + (if P (a + (m + n)) = true then 1 else 0) = qf_ct P a m + (qf_ct P (a + m) n + (if P (a + m + n) = true then 1 else 0))
    rw [ih, Nat.add_assoc a m n, Nat.add_assoc]
theorem qf_ct_1 (P : Nat → Bool) (a : Nat) : qf_ct P a 1 = if P a = true then 1 else 0 := by
  show 0 + (if P (a + 0) = true then 1 else 0) = _
  rw [Nat.zero_add, Nat.add_zero]
theorem qf_ct_per {P : Nat → Bool} {N : Nat} (h : ∀ x, P (x + N) = P x) (a : Nat) : qf_ct P a N = qf_ct P 0 N := by
  induction a with
  | zero => rfl
  | succ a ih =>
    have h1 : qf_ct P a (N + 1) = qf_ct P a N + (if P (a + N) = true then 1 else 0) := rfl
    have h2 := qf_ct_app P a 1 N
    rw [qf_ct_1, Nat.add_comm 1 N, h1, h a, ih] at h2
    omega
theorem qf_ct_0 {P : Nat → Bool} {a n : Nat} (h : ∀ i, i < n → P (a + i) = false) : qf_ct P a n = 0 := by
  induction n with
  | zero => rfl
  | succ n ih =>
    show qf_ct P a n + _ = 0
    rw [ih (fun i hi => h i (by omega)), h n (by omega)]
    rfl
theorem qf_ct_all {P : Nat → Bool} {a n : Nat} (h : ∀ i, i < n → P (a + i) = true) : qf_ct P a n = n := by
  induction n with
  | zero => rfl
  | succ n ih =>
    show qf_ct P a n + _ = n + 1
    rw [ih (fun i hi => h i (by omega)), h n (by omega)]
    rfl
theorem qf_ct_le (P : Nat → Bool) (a n : Nat) : qf_ct P a n ≤ n := by
  induction n with
  | zero => exact Nat.le_refl _
  | succ n ih =>
    show qf_ct P a n + _ ≤ n + 1
    split <;> omega
theorem qf_ct_free {P : Nat → Bool} {a n : Nat} (h : qf_ct P a n < n) : ∃ i, i < n ∧ P (a + i) = false := by
  refine Classical.byContradiction fun hn => ?_
  have := qf_ct_all (P := P) (a := a) (n := n) (fun i hi => by
    cases e : P (a + i) with
    | true => rfl
    | false => exact absurd ⟨i, hi, e⟩ hn)
  omega
theorem qf_ct_pos {P : Nat → Bool} {a n i : Nat} (hi : i < n) (h : P (a + i) = true) : 0 < qf_ct P a n := by
  have e : n = i + (1 + (n - i - 1)) := by omega
  rw [e, qf_ct_app, qf_ct_app, qf_ct_1, h]
  simp only [if_true]
  omega
theorem qf_ct_ex {P : Nat → Bool} {a n : Nat} (h : 0 < qf_ct P a n) : ∃ i, i < n ∧ P (a + i) = true := by
  refine Classical.byContradiction fun hn => ?_
  have := qf_ct_0 (P := P) (a := a) (n := n) (fun i hi => by
    cases e : P (a + i) with
    | false => rfl
    | true => exact absurd ⟨i, hi, e⟩ hn)
  omega
def qf_sm (f : Nat → Nat) : Nat → Nat
  | 0 => 0
  | n + 1 => qf_sm f n + f n
theorem qf_sm_eq {f f' : Nat → Nat} {n : Nat} (h : ∀ i, i < n → f i = f' i) : qf_sm f n = qf_sm f' n := by
  induction n with
  | zero => rfl
  | succ n ih =>
    show qf_sm f n + f n = qf_sm f' n + f' n
    rw [ih (fun i hi => h i (by omega)), h n (by omega)]
theorem qf_sm_add (f f' : Nat → Nat) (n : Nat) : qf_sm (fun i => f i + f' i) n = qf_sm f n + qf_sm f' n := by
  induction n with
  | zero => rfl
  | succ n ih =>
    show qf_sm (fun i => f i + f' i) n + (f n + f' n) = (qf_sm f n + f n) + (qf_sm f' n + f' n)
    rw [ih]
    omega
theorem qf_sm_0 (n : Nat) : qf_sm (fun _ => 0) n = 0 := by
  induction n with
  | zero => rfl
  | succ n ih => exact ih
theorem qf_sm_one (v n : Nat) : qf_sm (fun i => if v = i then 1 else 0) n = if v < n then 1 else 0 := by
  induction n with
  | zero => rfl
  | succ n ih =>
    show qf_sm (fun i => if v = i then 1 else 0) n + (if v = n then 1 else 0) = _
    rw [ih]
    by_cases h1 : v < n
    · rw [if_pos h1, if_neg (by omega), if_pos (by omega)]
    · by_cases h2 : v = n
      · rw [if_neg h1, if_pos h2, if_pos (by omega)]
      · rw [if_neg h1, if_neg h2, if_neg (by omega)]
/-- the sum over values below M of how many have that value, among those that count: those whose value is below M -/
theorem qf_sm_ct (U : Nat → Bool) (V : Nat → Nat) (a n M : Nat) : qf_sm (fun p => qf_ct (fun x => U x && (V x == p)) a n) M = qf_ct (fun x => U x && decide (V x < M)) a n := by
  induction n with
  | zero => exact qf_sm_0 M
  | succ n ih =>
    show qf_sm (fun p => qf_ct (fun x => U x && (V x == p)) a n + (if (U (a + n) && (V (a + n) == p)) = true then 1 else 0)) M = qf_ct (fun x => U x && decide (V x < M)) a n + (if (U (a + n) && decide (V (a + n) < M)) = true then 1 else 0)
    rw [qf_sm_add, ih]
    congr 1
    cases e : U (a + n) with
    | false => simp [qf_sm_0]
    | true =>
      have := qf_sm_one (V (a + n)) M
      simp only [Bool.true_and, beq_iff_eq, decide_eq_true_eq]
      exact this
end
section
/-! THE RING, unrolled: positions are all numbers, the functions have period N. U: used, Nm: named, Go: goes on, Pu: pushed, D: how far what stands there is from its own slot -/
def qf_RI (U Nm Go Pu : Nat → Bool) (D : Nat → Nat) : Prop :=
  (∀ x, U (x + 1) = true → 0 < D (x + 1) → U x = true ∧ D (x + 1) ≤ D x + 1) ∧
  (∀ x, U (x + 1) = true → (Go (x + 1) = true ↔ (0 < D (x + 1) ∧ D (x + 1) = D x + 1))) ∧
  (∀ x, U x = true → (Pu x = true ↔ 0 < D x)) ∧
  (∀ x, U x = true → D x ≤ x → Nm (x - D x) = true) ∧
  (∀ x, Nm x = true → ∃ k, U (x + k) = true ∧ D (x + k) = k) ∧
  (∀ x, U x = (Nm x || Go x || Pu x))
section QFN
variable {U Nm Go Pu : Nat → Bool} {D : Nat → Nat} {z : Nat}
theorem qf_RI.go_u (h : qf_RI U Nm Go Pu D) {x : Nat} (hx : Go x = true) : U x = true := by
  rw [h.2.2.2.2.2 x, hx]; simp
theorem qf_RI.pu_u (h : qf_RI U Nm Go Pu D) {x : Nat} (hx : Pu x = true) : U x = true := by
  rw [h.2.2.2.2.2 x, hx]; simp
theorem qf_RI.nm_u (h : qf_RI U Nm Go Pu D) {x : Nat} (hx : Nm x = true) : U x = true := by
  rw [h.2.2.2.2.2 x, hx]; simp
/-- behind a free place nothing has come from as far as that place -/
theorem qf_dz0 (h : qf_RI U Nm Go Pu D) (hz : U z = false) : ∀ n, U (z + 1 + n) = true → D (z + 1 + n) ≤ n := by
  intro n
  induction n with
  | zero =>
    intro hu
    rcases Nat.eq_zero_or_pos (D (z + 1 + 0)) with q | q
    · omega
    · have := (h.1 z hu q).1
      rw [hz] at this
      cases this
  | succ n ih =>
    intro hu
    rcases Nat.eq_zero_or_pos (D (z + 1 + (n + 1))) with q | q
    · omega
    · obtain ⟨a, b⟩ := h.1 (z + 1 + n) hu q
      have := ih a
      have e : z + 1 + n + 1 = z + 1 + (n + 1) := rfl
      rw [e] at b
      omega
theorem qf_dz (h : qf_RI U Nm Go Pu D) (hz : U z = false) {x : Nat} (hx : z < x) (hu : U x = true) : D x + z < x := by
  have e : x = z + 1 + (x - (z + 1)) := by omega
  have := qf_dz0 h hz (x - (z + 1)) (by rw [← e]; exact hu)
  rw [← e] at this
  omega
/-- a step: the own places don't fall -/
theorem qf_step (h : qf_RI U Nm Go Pu D) (hz : U z = false) {x : Nat} (hx : z < x) (hu : U x = true) (hd : 0 < D x) : U (x - 1) = true ∧ z < x - 1 ∧ (x - 1) - D (x - 1) ≤ x - D x := by
  have e : x = (x - 1) + 1 := by omega
  obtain ⟨a, b⟩ := h.1 (x - 1) (by rw [← e]; exact hu) (by rw [← e]; exact hd)
  rw [← e] at b
  refine ⟨a, ?_, by omega⟩
  rcases Nat.lt_or_ge z (x - 1) with q | q
  · exact q
  · have : x - 1 = z := by omega
    rw [this, hz] at a
    cases a
theorem qf_mono (h : qf_RI U Nm Go Pu D) (hz : U z = false) : ∀ (n x y : Nat), y - x ≤ n → z < x → x ≤ y → U x = true → U y = true → x - D x ≤ y - D y := by
  intro n
  induction n with
  | zero =>
    intro x y h1 h2 h3 _ _
    have : x = y := by omega
    subst this
    exact Nat.le_refl _
  | succ n ih =>
    intro x y h1 h2 h3 hux huy
    rcases Nat.eq_or_lt_of_le h3 with q | q
    · subst q; exact Nat.le_refl _
    · rcases Nat.eq_zero_or_pos (D y) with d | d
      · omega
      · obtain ⟨a, b, c⟩ := qf_step h hz (by omega) huy d
        have := ih x (y - 1) (by omega) h2 (by omega) hux a
        omega
theorem qf_mono' (h : qf_RI U Nm Go Pu D) (hz : U z = false) {x y : Nat} (h2 : z < x) (h3 : x ≤ y) (hx : U x = true) (hy : U y = true) : x - D x ≤ y - D y := qf_mono h hz (y - x) x y (Nat.le_refl _) h2 h3 hx hy
theorem qf_cont (h : qf_RI U Nm Go Pu D) (hz : U z = false) : ∀ (n y t : Nat), y - t ≤ n → z < y → U y = true → y - D y ≤ t → t ≤ y → U t = true := by
  intro n
  induction n with
  | zero =>
    intro y t h1 _ hu _ h4
    have : t = y := by omega
    subst this
    exact hu
  | succ n ih =>
    intro y t h1 h2 hu h3 h4
    rcases Nat.eq_or_lt_of_le h4 with q | q
    · subst q; exact hu
    · obtain ⟨a, b, c⟩ := qf_step h hz h2 hu (by omega)
      exact ih (y - 1) t (by omega) b a (by omega) (by omega)
theorem qf_cont' (h : qf_RI U Nm Go Pu D) (hz : U z = false) {y t : Nat} (h2 : z < y) (hu : U y = true) (h3 : y - D y ≤ t) (h4 : t ≤ y) : U t = true := qf_cont h hz (y - t) y t (Nat.le_refl _) h2 hu h3 h4
/-- behind a used place: 'goes on' is: the own place is the same -/
theorem qf_go_iff (h : qf_RI U Nm Go Pu D) (hz : U z = false) {x : Nat} (hx : z < x) (h1 : U x = true) (h2 : U (x + 1) = true) : Go (x + 1) = true ↔ (x + 1) - D (x + 1) = x - D x := by
  have d1 := qf_dz h hz hx h1
  have d2 := qf_dz h hz (by omega) h2
  have q := h.2.1 x h2
  constructor
  · intro g
    have := q.mp g
    omega
  · intro g
    exact q.mpr ⟨by omega, by omega⟩
/-- the first place from a on where P is false, before b -/
theorem qf_first {P : Nat → Bool} : ∀ (n a b : Nat), b - a ≤ n → a ≤ b → P b = false → ∃ y, a ≤ y ∧ y ≤ b ∧ (∀ t, a ≤ t → t < y → P t = true) ∧ P y = false := by
  intro n
  induction n with
  | zero =>
    intro a b h1 h2 h3
    exact ⟨b, h2, Nat.le_refl _, fun t _ _ => by omega, h3⟩
  | succ n ih =>
    intro a b h1 h2 h3
    cases e : P a with
    | false => exact ⟨a, Nat.le_refl _, h2, fun t _ _ => by omega, e⟩
    | true =>
      have hab : a ≠ b := fun q => by rw [q, h3] at e; cases e
      obtain ⟨y, y1, y2, y3, y4⟩ := ih (a + 1) b (by omega) (by omega) h3
      refine ⟨y, by omega, y2, fun t t1 t2 => ?_, y4⟩
      rcases Nat.eq_or_lt_of_le t1 with q | q
      · rw [← q]; exact e
      · exact y3 t q t2
theorem qf_first' {P : Nat → Bool} {a b : Nat} (h : a ≤ b) (hb : P b = false) : ∃ y, a ≤ y ∧ y ≤ b ∧ (∀ t, a ≤ t → t < y → P t = true) ∧ P y = false := qf_first (b - a) a b (Nat.le_refl _) h hb
/-- back to a place whose own run stands there -/
theorem qf_back (h : qf_RI U Nm Go Pu D) (hz : U z = false) : ∀ (n x : Nat), x ≤ n → z < x → U x = true → ∃ b, z < b ∧ b ≤ x ∧ (∀ t, b < t → t ≤ x → Pu t = true) ∧ Pu b = false ∧ U b = true := by
  intro n
  induction n with
  | zero => intro x h1 h2; omega
  | succ n ih =>
    intro x h1 h2 hu
    cases e : Pu x with
    | false => exact ⟨x, h2, Nat.le_refl _, fun t _ _ => by omega, e, hu⟩
    | true =>
      obtain ⟨a, b, c⟩ := qf_step h hz h2 hu ((h.2.2.1 x hu).mp e)
      obtain ⟨y, y1, y2, y3, y4, y5⟩ := ih (x - 1) (by omega) b a
      refine ⟨y, y1, by omega, fun t t1 t2 => ?_, y4, y5⟩
      rcases Nat.eq_or_lt_of_le t2 with q | q
      · rw [q]; exact e
      · exact y3 t t1 (by omega)
/-! what runStart does -/
def qf_RSN (Nm Go : Nat → Bool) (N Q R : Nat) : Nat → Nat → Nat → Prop
  | 0, b, s => b = Q ∧ s = R
  | n + 1, b, s => b % N ≠ Q % N ∧ ∃ b' s', s < s' ∧ (∀ t, s < t → t < s' → Go t = true) ∧ Go s' = false ∧ b < b' ∧ (∀ t, b < t → t < b' → Nm t = false) ∧ Nm b' = true ∧ qf_RSN Nm Go N Q R n b' s'
def qf_RS (Nm Go Pu : Nat → Bool) (N Q R : Nat) : Prop := ∃ b0 n, b0 ≤ Q ∧ (∀ t, b0 < t → t ≤ Q → Pu t = true) ∧ Pu b0 = false ∧ qf_RSN Nm Go N Q R n b0 b0
/-- R is where the run of Q stands, or would stand -/
def qf_ST (U : Nat → Bool) (D : Nat → Nat) (Q R : Nat) : Prop := Q ≤ R ∧ (∀ t, Q ≤ t → t < R → U t = true ∧ t - D t < Q) ∧ (U R = true → Q ≤ R - D R)
/-- a named slot's run begins at its place -/
theorem qf_ST_own (h : qf_RI U Nm Go Pu D) (hz : U z = false) {b s : Nat} (hb : z < b) (hn : Nm b = true) (hs : qf_ST U D b s) : U s = true ∧ s - D s = b := by
  obtain ⟨k, k1, k2⟩ := h.2.2.2.2.1 b hn
  obtain ⟨s1, s2, s3⟩ := hs
  have hys : s ≤ b + k := by
    rcases Nat.lt_or_ge (b + k) s with q | q
    · have := (s2 (b + k) (by omega) q).2
      omega
    · exact q
  have hu : U s = true := qf_cont' h hz (y := b + k) (by omega) k1 (by omega) hys
  have := s3 hu
  have := qf_mono' h hz (by omega) hys hu k1
  exact ⟨hu, by omega⟩
/-- along 'goes on' the own place stays -/
theorem qf_run (h : qf_RI U Nm Go Pu D) (hz : U z = false) {s e : Nat} (hs : z < s) (hu : U s = true) (hg : ∀ t, s < t → t < e → Go t = true) : ∀ n, s + n < e → U (s + n) = true ∧ (s + n) - D (s + n) = s - D s := by
  intro n
  induction n with
  | zero => intro _; exact ⟨hu, rfl⟩
  | succ n ih =>
    intro hn
    obtain ⟨a, b⟩ := ih (by omega)
    have g := hg (s + (n + 1)) (by omega) hn
    have hu1 := h.go_u g
    have := (qf_go_iff h hz (x := s + n) (by omega) a hu1).mp g
    refine ⟨hu1, ?_⟩
    have e : s + n + 1 = s + (n + 1) := rfl
    rw [e] at this
    omega
theorem qf_run' (h : qf_RI U Nm Go Pu D) (hz : U z = false) {s e t : Nat} (hs : z < s) (hu : U s = true) (hg : ∀ t, s < t → t < e → Go t = true) (h1 : s ≤ t) (h2 : t < e) : U t = true ∧ t - D t = s - D s := by
  have := qf_run h hz hs hu hg (t - s) (by omega)
  rw [show s + (t - s) = t by omega] at this
  exact this
theorem qf_rs_loop (h : qf_RI U Nm Go Pu D) (hz : U z = false) {N Q b0 : Nat} {Nm1 : Nat → Bool} (hzN : U (z + N) = false) (hQ : Q ≤ z + N) (hn1 : ∀ t, z < t → t < Q → Nm1 t = Nm t) (hn2 : Nm1 Q = true) (hb0 : z < b0) (hall : ∀ t, b0 ≤ t → t ≤ Q → U t = true) :
    ∀ (n b s : Nat), Q - b ≤ n → b0 ≤ b → b ≤ Q → Nm1 b = true → qf_ST U D b s → ∃ k R, qf_RSN Nm1 Go N Q R k b s ∧ qf_ST U D Q R := by
  intro n
  induction n with
  | zero =>
    intro b s h1 h2 h3 _ hs
    have : b = Q := by omega
    subst this
    exact ⟨0, s, ⟨rfl, rfl⟩, hs⟩
  | succ n ih =>
    intro b s h1 h2 h3 hb hs
    rcases Nat.eq_or_lt_of_le h3 with q | q
    · subst q
      exact ⟨0, s, ⟨rfl, rfl⟩, hs⟩
    · have hnb : Nm b = true := by rw [← hn1 b (by omega) q]; exact hb
      obtain ⟨us, os⟩ := qf_ST_own h hz (by omega) hnb hs
      obtain ⟨s1, s2, s3⟩ := hs
      have hQz : Q ≠ z + N := fun q1 => by
        have := hall Q (by omega) (Nat.le_refl _)
        rw [q1, hzN] at this
        cases this
      have hsz : s < z + N := by
        rcases Nat.lt_or_ge s (z + N) with r | r
        · exact r
        · rcases Nat.eq_or_lt_of_le r with r1 | r1
          · rw [← r1, hzN] at us; cases us
          · have := (s2 (z + N) (by omega) r1).1
            rw [hzN] at this; cases this
      have hgz : Go (z + N) = false := by
        cases e : Go (z + N) with
        | false => rfl
        | true => have := h.go_u e; rw [hzN] at this; cases this
      obtain ⟨s', a1, a2, a3, a4⟩ := qf_first' (P := Go) (a := s + 1) (b := z + N) (by omega) hgz
      have a3' : ∀ t, s < t → t < s' → Go t = true := fun t t1 t2 => a3 t t1 t2
      obtain ⟨b', c1, c2, c3, c4⟩ := qf_first' (P := fun t => !(Nm1 t)) (a := b + 1) (b := Q) (by omega) (by simp [hn2])
      have c3' : ∀ t, b < t → t < b' → Nm1 t = false := fun t t1 t2 => by simpa using c3 t t1 t2
      have c4' : Nm1 b' = true := by simpa using c4
      have hrun : ∀ t, s ≤ t → t < s' → U t = true ∧ t - D t = b := fun t t1 t2 => by
        have := qf_run' h hz (by omega) us a3' t1 t2
        exact ⟨this.1, by omega⟩
      -- what stands at s' has a later own place, and it is named
      have key : U s' = true → b < s' - D s' ∧ (s' - D s' < b' → False) := by
        intro u'
        have l1 := hrun (s' - 1) (by omega) (by omega)
        have m1 := qf_mono' h hz (x := s' - 1) (y := s') (by omega) (by omega) l1.1 u'
        have e : s' - 1 + 1 = s' := by omega
        have g := qf_go_iff h hz (x := s' - 1) (by omega) l1.1 (by rw [e]; exact u')
        rw [e] at g
        have hne : ¬ (s' - D s' = s' - 1 - D (s' - 1)) := fun r => by
          have := g.mpr r
          rw [a4] at this
          cases this
        have hlt : b < s' - D s' := by omega
        refine ⟨hlt, fun r => ?_⟩
        have d := qf_dz h hz (x := s') (by omega) u'
        have nn := h.2.2.2.1 s' u' (by omega)
        rw [← hn1 _ (by omega) (by omega), c3' _ hlt r] at nn
        cases nn
      have hbs : b' ≤ s' := by
        rcases Nat.lt_or_ge s' b' with r | r
        · have u' := hall s' (by omega) (by omega)
          have := key u'
          exact (this.2 (by omega)).elim
        · exact r
      have hs' : qf_ST U D b' s' := by
        refine ⟨hbs, fun t t1 t2 => ?_, fun u' => ?_⟩
        · rcases Nat.lt_or_ge t s with r | r
          · have := s2 t (by omega) r
            exact ⟨this.1, by omega⟩
          · have := hrun t r t2
            exact ⟨this.1, by omega⟩
        · rcases Nat.lt_or_ge (s' - D s') b' with r | r
          · exact ((key u').2 r).elim
          · exact r
      obtain ⟨k, R, k1, k2⟩ := ih b' s' (by omega) (by omega) c2 c4' hs'
      refine ⟨k + 1, R, ⟨?_, b', s', by omega, a3', a4, by omega, c3', c4', k1⟩, k2⟩
      intro r
      have hQb : Q - b < N := by omega
      have e1 : Q = N * (Q / N) + Q % N := (Nat.div_add_mod Q N).symm
      have e2 : b = N * (b / N) + b % N := (Nat.div_add_mod b N).symm
      have e3 : N * (b / N) ≤ N * (Q / N) := by omega
      rcases Nat.lt_or_ge (b / N) (Q / N) with w | w
      · have : N * (b / N + 1) ≤ N * (Q / N) := Nat.mul_le_mul_left _ w
        rw [Nat.mul_add, Nat.mul_one] at this
        omega
      · have : N * (Q / N) ≤ N * (b / N) := Nat.mul_le_mul_left _ w
        omega
/-- runStart finds where the run of a used slot Q stands or would stand -/
theorem qf_rs (h : qf_RI U Nm Go Pu D) (hz : U z = false) {N Q : Nat} {Nm1 : Nat → Bool} (hzN : U (z + N) = false) (hQ1 : z < Q) (hQ : Q ≤ z + N) (hu : U Q = true) (hn1 : ∀ t, z < t → t < Q → Nm1 t = Nm t) (hn2 : Nm1 Q = true) : ∃ R, qf_RS Nm1 Go Pu N Q R ∧ qf_ST U D Q R := by
  obtain ⟨b0, b1, b2, b3, b4, b5⟩ := qf_back h hz Q Q (Nat.le_refl _) hQ1 hu
  have d0 : D b0 = 0 := by
    rcases Nat.eq_zero_or_pos (D b0) with q | q
    · exact q
    · have := (h.2.2.1 b0 b5).mpr q
      rw [b4] at this; cases this
  have nb : Nm b0 = true := by
    have := h.2.2.2.1 b0 b5 (by omega)
    rw [d0, Nat.sub_zero] at this
    exact this
  have hall : ∀ t, b0 ≤ t → t ≤ Q → U t = true := fun t t1 t2 => by
    rcases Nat.eq_or_lt_of_le t1 with q | q
    · rw [← q]; exact b5
    · exact h.pu_u (b3 t q t2)
  have n1b : Nm1 b0 = true := by
    rcases Nat.eq_or_lt_of_le b2 with q | q
    · rw [q]; exact hn2
    · rw [hn1 b0 b1 q]; exact nb
  obtain ⟨k, R, k1, k2⟩ := qf_rs_loop h hz hzN hQ hn1 hn2 b1 hall (Q - b0) b0 b0 (Nat.le_refl _) (Nat.le_refl _) b2 n1b ⟨Nat.le_refl _, fun t t1 t2 => by omega, fun _ => by omega⟩
  exact ⟨R, ⟨b0, k, b2, b3, b4, k1⟩, k2⟩
end QFN
end
section
/-! PERIODIC functions, and a window of one round behind a free place z: the places z + 1 .. z + N -/
def qf_pe {α : Type} (N : Nat) (a : Nat → α) : Nat → α := fun x => a (x % N)
theorem qf_pe_per {α : Type} (N : Nat) (a : Nat → α) (x : Nat) : qf_pe N a (x + N) = qf_pe N a x := by
  unfold qf_pe
  rw [Nat.add_mod_right]
theorem qf_pe_at {α : Type} {N : Nat} (a : Nat → α) {x : Nat} (h : x < N) : qf_pe N a x = a x := by
  unfold qf_pe
  rw [Nat.mod_eq_of_lt h]
theorem qf_per_mul {α : Type} {N : Nat} {h : Nat → α} (p : ∀ x, h (x + N) = h x) (r k : Nat) : h (r + N * k) = h r := by
  induction k with
  | zero => rfl
  | succ k ih => rw [Nat.mul_succ, ← Nat.add_assoc, p, ih]
theorem qf_per_mod {α : Type} {N : Nat} {h : Nat → α} (p : ∀ x, h (x + N) = h x) (x : Nat) : h x = h (x % N) := by
  have := qf_per_mul p (x % N) (x / N)
  rw [Nat.mod_add_div] at this
  exact this
theorem qf_per_eq {α : Type} {N : Nat} {h : Nat → α} (p : ∀ x, h (x + N) = h x) {x y : Nat} (e : x % N = y % N) : h x = h y := by
  rw [qf_per_mod p x, qf_per_mod p y, e]
theorem qf_mod_diff {N x y : Nat} (e : x % N = y % N) (h : x ≤ y) : ∃ k, y = x + N * k := by
  refine ⟨y / N - x / N, ?_⟩
  have a := Nat.div_add_mod x N
  have b := Nat.div_add_mod y N
  have c : N * (x / N) ≤ N * (y / N) := by omega
  rw [Nat.mul_sub]
  omega
theorem qf_sub_mod {N x y d : Nat} (e : x % N = y % N) (hx : d ≤ x) (hy : d ≤ y) : (x - d) % N = (y - d) % N := by
  rcases Nat.le_total x y with q | q
  · obtain ⟨k, hk⟩ := qf_mod_diff e q
    rw [show y - d = (x - d) + N * k by omega, Nat.add_mul_mod_self_left]
  · obtain ⟨k, hk⟩ := qf_mod_diff e.symm q
    rw [show x - d = (y - d) + N * k by omega, Nat.add_mul_mod_self_left]
theorem qf_own_mod {N x d : Nat} (h1 : d ≤ x) (h2 : d ≤ N) : (x % N + N - d) % N = (x - d) % N := by
  have e := Nat.div_add_mod x N
  have k : (x % N + N - d) + N * (x / N) = (x - d) + N := by omega
  have a : ((x % N + N - d) + N * (x / N)) % N = (x % N + N - d) % N := Nat.add_mul_mod_self_left _ _ _
  rw [← a, k, Nat.add_mod_right]
/-- two places of one window that name the same slot are one -/
theorem qf_win_inj {N z x y : Nat} (e : x % N = y % N) (h1 : z < x) (h2 : x ≤ z + N) (h3 : z < y) (h4 : y ≤ z + N) : x = y := by
  rcases Nat.le_total x y with q | q
  · obtain ⟨k, hk⟩ := qf_mod_diff e q
    cases k with
    | zero => omega
    | succ k => rw [Nat.mul_succ] at hk; omega
  · obtain ⟨k, hk⟩ := qf_mod_diff e.symm q
    cases k with
    | zero => omega
    | succ k => rw [Nat.mul_succ] at hk; omega
def qf_wr (N z x : Nat) : Nat := z + 1 + (x + (N - 1) * (z + 1)) % N
theorem qf_wr_k {N z : Nat} (hN : 0 < N) : (N - 1) * (z + 1) + (z + 1) = N * (z + 1) := by
  have : N = (N - 1) + 1 := by omega
  conv => rhs; rw [this, Nat.succ_mul]
theorem qf_wr_in {N : Nat} (hN : 0 < N) (z x : Nat) : z < qf_wr N z x ∧ qf_wr N z x ≤ z + N := by
  unfold qf_wr
  have := Nat.mod_lt (x + (N - 1) * (z + 1)) hN
  omega
theorem qf_wr_mod {N : Nat} (hN : 0 < N) (z x : Nat) : qf_wr N z x % N = x % N := by
  unfold qf_wr
  rw [Nat.add_mod_mod]
  have := qf_wr_k (z := z) hN
  rw [show z + 1 + (x + (N - 1) * (z + 1)) = x + N * (z + 1) by omega, Nat.add_mul_mod_self_left]
theorem qf_wr_self {N z x : Nat} (hN : 0 < N) (h1 : z < x) (h2 : x ≤ z + N) : qf_wr N z x = x := by
  have a := qf_wr_in hN z x
  exact qf_win_inj (qf_wr_mod hN z x) a.1 a.2 h1 h2
theorem qf_wr_per {N : Nat} (z x : Nat) : qf_wr N z (x + N) = qf_wr N z x := by
  unfold qf_wr
  rw [show x + N + (N - 1) * (z + 1) = x + (N - 1) * (z + 1) + N by omega, Nat.add_mod_right]
theorem qf_per_wr {α : Type} {N : Nat} {h : Nat → α} (hN : 0 < N) (p : ∀ x, h (x + N) = h x) (z x : Nat) : h x = h (qf_wr N z x) := qf_per_eq p (qf_wr_mod hN z x).symm
theorem qf_wr_succ {N z x : Nat} (hN : 0 < N) (h : qf_wr N z x < z + N) : qf_wr N z (x + 1) = qf_wr N z x + 1 := by
  have a := qf_wr_in hN z x
  have b := qf_wr_in hN z (x + 1)
  refine qf_win_inj (N := N) (z := z) ?_ b.1 b.2 (by omega) (by omega)
  rw [qf_wr_mod hN, Nat.add_mod (qf_wr N z x) 1 N, qf_wr_mod hN, ← Nat.add_mod]
theorem qf_wr_last {N z x : Nat} (hN : 0 < N) (h : qf_wr N z x = z + N) : qf_wr N z (x + 1) = z + 1 := by
  have b := qf_wr_in hN z (x + 1)
  refine qf_win_inj (N := N) (z := z) ?_ b.1 b.2 (by omega) (by omega)
  have e := qf_wr_mod hN z x
  rw [h, Nat.add_mod_right] at e
  rw [qf_wr_mod hN, Nat.add_mod x 1 N, ← e, ← Nat.add_mod]
section QFW
variable {U Nm Go Pu : Nat → Bool} {D : Nat → Nat} {N z : Nat}
/-- the ring's law out of one window -/
theorem qf_RI_of (hN : 0 < N) (pU : ∀ x, U (x + N) = U x) (pN : ∀ x, Nm (x + N) = Nm x) (pG : ∀ x, Go (x + N) = Go x) (pP : ∀ x, Pu (x + N) = Pu x) (pD : ∀ x, D (x + N) = D x)
    (w1 : ∀ x, z < x → x < z + N → U (x + 1) = true → 0 < D (x + 1) → U x = true ∧ D (x + 1) ≤ D x + 1)
    (wz : U (z + 1) = true → D (z + 1) = 0 ∧ Go (z + 1) = false)
    (w2 : ∀ x, z < x → x < z + N → U (x + 1) = true → (Go (x + 1) = true ↔ (0 < D (x + 1) ∧ D (x + 1) = D x + 1)))
    (w3 : ∀ x, z < x → x ≤ z + N → U x = true → (Pu x = true ↔ 0 < D x))
    (w4 : ∀ x, z < x → x ≤ z + N → U x = true → D x ≤ x ∧ Nm (x - D x) = true)
    (w5 : ∀ x, z < x → x ≤ z + N → Nm x = true → ∃ k, U (x + k) = true ∧ D (x + k) = k)
    (w6 : ∀ x, U x = (Nm x || Go x || Pu x)) : qf_RI U Nm Go Pu D := by
  have eU := fun x => qf_per_wr hN pU z x
  have eN := fun x => qf_per_wr hN pN z x
  have eG := fun x => qf_per_wr hN pG z x
  have eP := fun x => qf_per_wr hN pP z x
  have eD := fun x => qf_per_wr hN pD z x
  have hi := fun x => qf_wr_in hN z x
  refine ⟨fun x hu hd => ?_, fun x hu => ?_, fun x hu => ?_, fun x hu hd => ?_, fun x hn => ?_, w6⟩
  · rw [eU (x + 1)] at hu
    rw [eD (x + 1)] at hd ⊢
    rw [eU x, eD x]
    rcases Nat.lt_or_ge (qf_wr N z x) (z + N) with q | q
    · rw [qf_wr_succ hN q] at hu hd ⊢
      exact w1 _ (hi x).1 q hu hd
    · rw [qf_wr_last hN (Nat.le_antisymm (hi x).2 q)] at hu hd
      have := (wz hu).1
      omega
  · rw [eU (x + 1)] at hu
    rw [eG (x + 1), eD (x + 1), eD x]
    rcases Nat.lt_or_ge (qf_wr N z x) (z + N) with q | q
    · rw [qf_wr_succ hN q] at hu ⊢
      exact w2 _ (hi x).1 q hu
    · rw [qf_wr_last hN (Nat.le_antisymm (hi x).2 q)] at hu ⊢
      obtain ⟨a, b⟩ := wz hu
      rw [a, b]
      constructor
      · intro r; cases r
      · intro r; omega
  · rw [eU x] at hu
    rw [eP x, eD x]
    exact w3 _ (hi x).1 (hi x).2 hu
  · have hu' := hu
    rw [eU x] at hu'
    obtain ⟨a, b⟩ := w4 _ (hi x).1 (hi x).2 hu'
    rw [← eD x] at a b
    rw [qf_per_eq pN (qf_sub_mod (qf_wr_mod hN z x).symm hd a)]
    exact b
  · rw [eN x] at hn
    obtain ⟨k, k1, k2⟩ := w5 _ (hi x).1 (hi x).2 hn
    have e : (x + k) % N = (qf_wr N z x + k) % N := by rw [Nat.add_mod, ← qf_wr_mod hN z x, ← Nat.add_mod]
    exact ⟨k, by rw [qf_per_eq pU e]; exact k1, by rw [qf_per_eq pD e]; exact k2⟩
end QFW
/-- what is held: all over periodic functions; c p of each fingerprint p -/
def qf_PR (N R : Nat) (D L : Nat → Nat) (x : Nat) : Nat := ((x % N + N - D x) % N) * R + L x
def qf_Iv (N R : Nat) (U Nm Go Pu : Nat → Bool) (D L : Nat → Nat) (held : Nat) (c : Nat → Nat) : Prop :=
  qf_RI U Nm Go Pu D ∧ ((∀ x, U (x + N) = U x) ∧ (∀ x, Nm (x + N) = Nm x) ∧ (∀ x, Go (x + N) = Go x) ∧ (∀ x, Pu (x + N) = Pu x) ∧ (∀ x, D (x + N) = D x) ∧ (∀ x, L (x + N) = L x)) ∧
  (∀ x, U x = true → L x < R) ∧ qf_ct U 0 N = held ∧ ∀ p, c p = qf_ct (fun x => U x && (qf_PR N R D L x == p)) 0 N
theorem qf_PR_per {N R : Nat} {D L : Nat → Nat} (pD : ∀ x, D (x + N) = D x) (pL : ∀ x, L (x + N) = L x) (x : Nat) : qf_PR N R D L (x + N) = qf_PR N R D L x := by
  unfold qf_PR
  rw [pD, pL, Nat.add_mod_right]
theorem qf_PR_own {N R : Nat} {D L : Nat → Nat} {x : Nat} (h1 : D x ≤ x) (h2 : D x ≤ N) : qf_PR N R D L x = ((x - D x) % N) * R + L x := by
  unfold qf_PR
  rw [qf_own_mod h1 h2]
/-- one more among N places of a window -/
theorem qf_ct_ins {P P' : Nat → Bool} {N z s e : Nat} (h1 : z < s) (h2 : s ≤ e) (h3 : e ≤ z + N) (a1 : ∀ x, z < x → x < s → P' x = P x) (a2 : ∀ x, s < x → x ≤ e → P' x = P (x - 1)) (a3 : P e = false) (a4 : ∀ x, e < x → x ≤ z + N → P' x = P x) : qf_ct P' (z + 1) N = qf_ct P (z + 1) N + (if P' s = true then 1 else 0) := by
  have e1 : N = (s - (z + 1)) + (1 + ((e - s) + (z + N - e))) := by omega
  have e2 : N = (s - (z + 1)) + ((e - s) + (1 + (z + N - e))) := by omega
  have l1 : qf_ct P' (z + 1) N = qf_ct P' (z + 1) (s - (z + 1)) + (qf_ct P' s 1 + (qf_ct P' (s + 1) (e - s) + qf_ct P' (e + 1) (z + N - e))) := by
    conv => lhs; rw [e1]
    rw [qf_ct_app, qf_ct_app, qf_ct_app, show z + 1 + (s - (z + 1)) = s by omega, show s + 1 + (e - s) = e + 1 by omega]
  have l2 : qf_ct P (z + 1) N = qf_ct P (z + 1) (s - (z + 1)) + (qf_ct P s (e - s) + (qf_ct P e 1 + qf_ct P (e + 1) (z + N - e))) := by
    conv => lhs; rw [e2]
    rw [qf_ct_app, qf_ct_app, qf_ct_app, show z + 1 + (s - (z + 1)) = s by omega, show s + (e - s) = e by omega]
  have b1 : qf_ct P' (z + 1) (s - (z + 1)) = qf_ct P (z + 1) (s - (z + 1)) := qf_ct_sh (fun i hi => a1 _ (by omega) (by omega))
  have b2 : qf_ct P' (s + 1) (e - s) = qf_ct P s (e - s) := qf_ct_sh (fun i hi => by
    have := a2 (s + 1 + i) (by omega) (by omega)
    rw [this, show s + 1 + i - 1 = s + i by omega])
  have b3 : qf_ct P' (e + 1) (z + N - e) = qf_ct P (e + 1) (z + N - e) := qf_ct_sh (fun i hi => a4 _ (by omega) (by omega))
  rw [l1, l2, b1, b2, b3, qf_ct_1, qf_ct_1, a3]
  simp only [Bool.false_eq_true, if_false]
  omega
end
section
/-! WHAT AN INSERTION, A FREEING, A READING DO to what is held -/
section QFI
variable {U Nm Go Pu U' Nm' Go' Pu' : Nat → Bool} {D L L' : Nat → Nat} {N R held z : Nat} {c : Nat → Nat}
/-- the displacements behind an insertion at s, with e the next free place, of something whose own place is Q -/
def qf_Dw (D : Nat → Nat) (Q s e y : Nat) : Nat := if y < s then D y else if y = s then s - Q else if y ≤ e then D (y - 1) + 1 else D y
theorem qf_Dw1 {Q s e y : Nat} (h : y < s) : qf_Dw D Q s e y = D y := if_pos h
theorem qf_Dw2 {Q s e : Nat} : qf_Dw D Q s e s = s - Q := by
  unfold qf_Dw
  rw [if_neg (Nat.lt_irrefl s), if_pos rfl]
theorem qf_Dw3 {Q s e y : Nat} (h : s < y) (h2 : y ≤ e) : qf_Dw D Q s e y = D (y - 1) + 1 := by
  unfold qf_Dw
  rw [if_neg (by omega), if_neg (by omega), if_pos h2]
theorem qf_Dw4 {Q s e y : Nat} (h : s ≤ e) (h2 : e < y) : qf_Dw D Q s e y = D y := by
  unfold qf_Dw
  rw [if_neg (by omega), if_neg (by omega), if_neg (by omega)]
theorem qf_ins (hN : 0 < N) (I : qf_Iv N R U Nm Go Pu D L held c) (hz : U z = false) {Q s e w : Nat} {fol g1 : Bool}
    (hQ : z < Q) (hQs : Q ≤ s) (hse : s ≤ e) (hez : e ≤ z + N) (hbe : ∀ t, Q ≤ t → t < s → U t = true ∧ t - D t ≤ Q) (haf : ∀ t, s ≤ t → t < e → U t = true ∧ Q ≤ t - D t) (hfe : U e = false)
    (hfol : fol = true ↔ (Q < s ∧ (s - 1) - D (s - 1) = Q)) (hg1 : s < e → (g1 = true ↔ s - D s = Q)) (hw : w < R)
    (pN : ∀ x, Nm' (x + N) = Nm' x) (pG : ∀ x, Go' (x + N) = Go' x) (pP : ∀ x, Pu' (x + N) = Pu' x) (pL : ∀ x, L' (x + N) = L' x) (hU : ∀ x, U' x = (Nm' x || Go' x || Pu' x))
    (n1 : ∀ x, z < x → x ≤ z + N → (Nm' x = true ↔ (Nm x = true ∨ x = Q)))
    (o1 : ∀ x, z < x → x < s → Go' x = Go x) (o2 : Go' s = fol) (o3 : s < e → Go' (s + 1) = g1) (o4 : ∀ x, s + 1 < x → x ≤ e → Go' x = Go (x - 1)) (o5 : ∀ x, e < x → x ≤ z + N → Go' x = Go x)
    (p1 : ∀ x, z < x → x < s → Pu' x = Pu x) (p2 : Pu' s = true ↔ s ≠ Q) (p3 : ∀ x, s < x → x ≤ e → Pu' x = true) (p5 : ∀ x, e < x → x ≤ z + N → Pu' x = Pu x)
    (l1 : ∀ x, z < x → x < s → L' x = L x) (l2 : L' s = w) (l3 : ∀ x, s < x → x ≤ e → L' x = L (x - 1)) (l5 : ∀ x, e < x → x ≤ z + N → L' x = L x) :
    ∃ D', qf_Iv N R U' Nm' Go' Pu' D' L' (held + 1) (fun p => c p + if (Q % N) * R + w = p then 1 else 0) := by
  obtain ⟨hR, ⟨qU, qN, qG, qP, qD, qL⟩, hL, hct, hc⟩ := I
  have hzN : U (z + N) = false := by rw [qU]; exact hz
  have u1 : ∀ x, z < x → x < s → U' x = U x := by
    intro x x1 x2
    rw [hU, hR.2.2.2.2.2 x, o1 x x1 x2, p1 x x1 x2]
    by_cases e1 : x = Q
    · subst e1
      have a := (hbe x (Nat.le_refl _) x2).1
      rw [hR.2.2.2.2.2 x] at a
      have b := (n1 x x1 (by omega)).mpr (Or.inr rfl)
      rw [a, b]
      rfl
    · have b : Nm' x = Nm x := by
        have := n1 x x1 (by omega)
        cases hx : Nm x with
        | true => exact this.mpr (Or.inl hx)
        | false =>
          cases hx' : Nm' x with
          | false => rfl
          | true =>
            rcases this.mp hx' with r | r
            · rw [hx] at r; cases r
            · exact absurd r e1
      rw [b]
  have u5 : ∀ x, e < x → x ≤ z + N → U' x = U x := by
    intro x x1 x2
    rw [hU, hR.2.2.2.2.2 x, o5 x x1 x2, p5 x x1 x2]
    have b : Nm' x = Nm x := by
      have := n1 x (by omega) x2
      cases hx : Nm x with
      | true => exact this.mpr (Or.inl hx)
      | false =>
        cases hx' : Nm' x with
        | false => rfl
        | true =>
          rcases this.mp hx' with r | r
          · rw [hx] at r; cases r
          · omega
    rw [b]
  have u2 : U' s = true := by
    rw [hU]
    by_cases e1 : s = Q
    · have := (n1 s (by omega) (by omega)).mpr (Or.inr e1)
      rw [this]; rfl
    · rw [p2.mpr e1]; simp
  have u3 : ∀ x, s < x → x ≤ e → U' x = true := by
    intro x x1 x2
    rw [hU, p3 x x1 x2]; simp
  have pU : ∀ x, U' (x + N) = U' x := fun x => by rw [hU, hU, pN, pG, pP]
  -- the displacements
  obtain ⟨D', eD'⟩ : ∃ D' : Nat → Nat, D' = fun x => qf_Dw D Q s e (qf_wr N z x) := ⟨_, rfl⟩
  have pD : ∀ x, D' (x + N) = D' x := fun x => by rw [eD']; show qf_Dw D Q s e (qf_wr N z (x + N)) = _; rw [qf_wr_per]
  have dw : ∀ x, z < x → x ≤ z + N → D' x = qf_Dw D Q s e x := fun x x1 x2 => by rw [eD']; show qf_Dw D Q s e (qf_wr N z x) = _; rw [qf_wr_self hN x1 x2]
  have d1 : ∀ x, z < x → x < s → D' x = D x := fun x x1 x2 => by rw [dw x x1 (by omega), qf_Dw1 x2]
  have d2 : D' s = s - Q := by rw [dw s (by omega) (by omega), qf_Dw2]
  have d3 : ∀ x, s < x → x ≤ e → D' x = D (x - 1) + 1 := fun x x1 x2 => by rw [dw x (by omega) (by omega), qf_Dw3 x1 x2]
  have d5 : ∀ x, e < x → x ≤ z + N → D' x = D x := fun x x1 x2 => by rw [dw x (by omega) x2, qf_Dw4 hse x1]
  have own : ∀ x, z < x → U x = true → D x + z < x := fun x x1 x2 => qf_dz hR hz x1 x2
  have de : U (e + 1) = true → D (e + 1) = 0 ∧ Go (e + 1) = false := by
    intro r
    have a : D (e + 1) = 0 := by
      rcases Nat.eq_zero_or_pos (D (e + 1)) with q | q
      · exact q
      · have := (hR.1 e r q).1
        rw [hfe] at this; cases this
    refine ⟨a, ?_⟩
    cases g : Go (e + 1) with
    | false => rfl
    | true =>
      have := (hR.2.1 e r).mp g
      omega
  have RI' : qf_RI U' Nm' Go' Pu' D' := by
    refine qf_RI_of (z := z) hN pU pN pG pP pD ?_ ?_ ?_ ?_ ?_ ?_ hU
    · -- w1
      intro x x1 x2 hu hd
      rcases Nat.lt_trichotomy (x + 1) s with q | q | q
      · rw [u1 _ (by omega) q] at hu
        rw [d1 _ (by omega) q] at hd ⊢
        rw [u1 _ x1 (by omega), d1 _ x1 (by omega)]
        exact hR.1 x hu hd
      · rw [q, d2] at hd ⊢
        have a := hbe x (by omega) (by omega)
        have b := own x x1 a.1
        rw [u1 _ x1 (by omega), d1 _ x1 (by omega)]
        exact ⟨a.1, by omega⟩
      · rcases Nat.lt_or_ge e (x + 1) with q2 | q2
        · rw [u5 _ q2 (by omega)] at hu
          rw [d5 _ q2 (by omega)] at hd ⊢
          rcases Nat.eq_or_lt_of_le (show e ≤ x by omega) with q3 | q3
          · subst q3
            have := (de hu).1
            omega
          · rw [u5 _ q3 (by omega), d5 _ q3 (by omega)]
            exact hR.1 x hu hd
        · rw [d3 _ q q2, Nat.add_sub_cancel]
          rcases Nat.eq_or_lt_of_le (show s ≤ x by omega) with q3 | q3
          · subst q3
            have a := haf s (Nat.le_refl _) (by omega)
            have b := own s x1 a.1
            rw [d2]
            exact ⟨u2, by omega⟩
          · rw [d3 _ q3 (by omega)]
            refine ⟨u3 _ q3 (by omega), ?_⟩
            rcases Nat.eq_zero_or_pos (D x) with r | r
            · omega
            · have a := haf x (by omega) (by omega)
              have := hR.1 (x - 1) (by rw [show x - 1 + 1 = x by omega]; exact a.1) (by rw [show x - 1 + 1 = x by omega]; exact r)
              rw [show x - 1 + 1 = x by omega] at this
              omega
    · -- wz
      intro hu
      rcases Nat.lt_or_ge (z + 1) s with q | q
      · rw [u1 _ (by omega) q] at hu
        have a := own (z + 1) (by omega) hu
        have a0 : D (z + 1) = 0 := by omega
        rw [d1 _ (by omega) q, o1 _ (by omega) q]
        refine ⟨a0, ?_⟩
        cases g : Go (z + 1) with
        | false => rfl
        | true =>
          have := (hR.2.1 z hu).mp g
          omega
      · have e1 : s = z + 1 := by omega
        rw [← e1, d2, o2]
        refine ⟨by omega, ?_⟩
        cases g : fol with
        | false => rfl
        | true =>
          have := hfol.mp g
          omega
    · -- w2
      intro x x1 x2 hu
      rcases Nat.lt_trichotomy (x + 1) s with q | q | q
      · rw [u1 _ (by omega) q] at hu
        rw [d1 _ (by omega) q, d1 _ x1 (by omega), o1 _ (by omega) q]
        exact hR.2.1 x hu
      · rw [q, d2, o2, d1 _ x1 (by omega), hfol, show s - 1 = x by omega]
        constructor
        · intro r
          have a := hbe x (by omega) (by omega)
          have b := own x x1 a.1
          omega
        · intro r
          have a := hbe x (by omega) (by omega)
          have b := own x x1 a.1
          omega
      · rcases Nat.lt_or_ge e (x + 1) with q2 | q2
        · rw [u5 _ q2 (by omega)] at hu
          rw [d5 _ q2 (by omega), o5 _ q2 (by omega)]
          rcases Nat.eq_or_lt_of_le (show e ≤ x by omega) with q3 | q3
          · subst q3
            obtain ⟨a, b⟩ := de hu
            rw [a, b]
            constructor
            · intro r; cases r
            · intro r; omega
          · rw [d5 _ q3 (by omega)]
            exact hR.2.1 x hu
        · rw [d3 _ q q2, Nat.add_sub_cancel]
          rcases Nat.eq_or_lt_of_le (show s ≤ x by omega) with q3 | q3
          · subst q3
            have a := haf s (Nat.le_refl _) (by omega)
            have b := own s x1 a.1
            rw [d2, o3 (by omega), hg1 (by omega)]
            constructor
            · intro r; omega
            · intro r; omega
          · rw [d3 _ q3 (by omega), o4 _ (by omega) q2, Nat.add_sub_cancel]
            have a := haf x (by omega) (by omega)
            have a' := haf (x - 1) (by omega) (by omega)
            have b := own x x1 a.1
            have b' := own (x - 1) (by omega) a'.1
            have := hR.2.1 (x - 1) (by rw [show x - 1 + 1 = x by omega]; exact a.1)
            rw [show x - 1 + 1 = x by omega] at this
            rw [this]
            constructor
            · intro r; omega
            · intro r; omega
    · -- w3
      intro x x1 x2 hu
      rcases Nat.lt_trichotomy x s with q | q | q
      · rw [u1 _ x1 q] at hu
        rw [p1 _ x1 q, d1 _ x1 q]
        exact hR.2.2.1 x hu
      · subst q
        rw [p2, d2]
        omega
      · rcases Nat.lt_or_ge e x with q2 | q2
        · rw [u5 _ q2 x2] at hu
          rw [p5 _ q2 x2, d5 _ q2 x2]
          exact hR.2.2.1 x hu
        · rw [p3 _ q q2, d3 _ q q2]
          constructor
          · intro _; omega
          · intro _; rfl
    · -- w4
      intro x x1 x2 hu
      have named : ∀ y, z < y → y ≤ z + N → U y = true → D y ≤ y ∧ Nm' (y - D y) = true := by
        intro y y1 y2 hy
        have a := own y y1 hy
        refine ⟨by omega, (n1 _ (by omega) (by omega)).mpr (Or.inl (hR.2.2.2.1 y hy (by omega)))⟩
      rcases Nat.lt_trichotomy x s with q | q | q
      · rw [u1 _ x1 q] at hu
        rw [d1 _ x1 q]
        exact named x x1 x2 hu
      · subst q
        rw [d2]
        refine ⟨by omega, (n1 _ (by omega) (by omega)).mpr (Or.inr (by omega))⟩
      · rcases Nat.lt_or_ge e x with q2 | q2
        · rw [u5 _ q2 x2] at hu
          rw [d5 _ q2 x2]
          exact named x x1 x2 hu
        · rw [d3 _ q q2]
          have a := haf (x - 1) (by omega) (by omega)
          have b := named (x - 1) (by omega) (by omega) a.1
          refine ⟨by omega, ?_⟩
          rw [show x - (D (x - 1) + 1) = x - 1 - D (x - 1) by omega]
          exact b.2
    · -- w5
      intro x x1 x2 hn
      rcases (n1 x x1 x2).mp hn with r | r
      · obtain ⟨k, k1, k2⟩ := hR.2.2.2.2.1 x r
        have hb : x + k < z + N := by
          rcases Nat.lt_or_ge (x + k) (z + N) with q | q
          · exact q
          · have := qf_cont' hR hz (y := x + k) (t := z + N) (by omega) k1 (by omega) q
            rw [hzN] at this; cases this
        rcases Nat.lt_or_ge (x + k) s with q | q
        · exact ⟨k, by rw [u1 _ (by omega) q]; exact k1, by rw [d1 _ (by omega) q]; exact k2⟩
        · rcases Nat.lt_or_ge e (x + k) with q2 | q2
          · exact ⟨k, by rw [u5 _ q2 (by omega)]; exact k1, by rw [d5 _ q2 (by omega)]; exact k2⟩
          · have hne : x + k ≠ e := fun r1 => by rw [r1, hfe] at k1; cases k1
            refine ⟨k + 1, u3 _ (by omega) (by omega), ?_⟩
            rw [d3 _ (by omega) (by omega), show x + (k + 1) - 1 = x + k by omega, k2]
      · subst r
        refine ⟨s - x, ?_, ?_⟩
        · rw [show x + (s - x) = s by omega]; exact u2
        · rw [show x + (s - x) = s by omega]; exact d2
  have ow' : ∀ x, z < x → x ≤ z + N → U' x = true → D' x ≤ x ∧ D' x ≤ N := by
    intro x x1 x2 hu
    rcases Nat.lt_trichotomy x s with q | q | q
    · rw [u1 _ x1 q] at hu
      have := own x x1 hu
      rw [d1 _ x1 q]; omega
    · subst q; rw [d2]; omega
    · rcases Nat.lt_or_ge e x with q2 | q2
      · rw [u5 _ q2 x2] at hu
        have := own x x1 hu
        rw [d5 _ q2 x2]; omega
      · have := own (x - 1) (by omega) (haf (x - 1) (by omega) (by omega)).1
        rw [d3 _ q q2]; omega
  refine ⟨D', RI', ⟨pU, pN, pG, pP, pD, pL⟩, ?_, ?_, ?_⟩
  · intro x hu
    rw [qf_per_wr hN pU z x] at hu
    rw [qf_per_wr hN pL z x]
    obtain ⟨x1, x2⟩ := qf_wr_in hN z x
    generalize qf_wr N z x = x at hu x1 x2 ⊢
    rcases Nat.lt_trichotomy x s with q | q | q
    · rw [u1 _ x1 q] at hu
      rw [l1 _ x1 q]; exact hL x hu
    · subst q; rw [l2]; exact hw
    · rcases Nat.lt_or_ge e x with q2 | q2
      · rw [u5 _ q2 x2] at hu
        rw [l5 _ q2 x2]; exact hL x hu
      · rw [l3 _ q q2]; exact hL _ (haf (x - 1) (by omega) (by omega)).1
  · have a := qf_ct_ins (P := U) (P' := U') (N := N) (z := z) (s := s) (e := e) (by omega) hse hez u1 (fun x x1 x2 => by rw [u3 x x1 x2, (haf (x - 1) (by omega) (by omega)).1]) hfe u5
    rw [qf_ct_per pU, qf_ct_per qU, hct, u2] at a
    exact a
  · intro p
    have pp : ∀ x, (fun x => U x && (qf_PR N R D L x == p)) (x + N) = (fun x => U x && (qf_PR N R D L x == p)) x := fun x => by
      show (U (x + N) && (qf_PR N R D L (x + N) == p)) = (U x && (qf_PR N R D L x == p))
      rw [qU, qf_PR_per qD qL]
    have pp' : ∀ x, (fun x => U' x && (qf_PR N R D' L' x == p)) (x + N) = (fun x => U' x && (qf_PR N R D' L' x == p)) x := fun x => by
      show (U' (x + N) && (qf_PR N R D' L' (x + N) == p)) = (U' x && (qf_PR N R D' L' x == p))
      rw [pU, qf_PR_per pD pL]
    have prs : qf_PR N R D' L' s = (Q % N) * R + w := by
      have := ow' s (by omega) (by omega) u2
      rw [qf_PR_own this.1 this.2, d2, l2, show s - (s - Q) = Q by omega]
    have a := qf_ct_ins (P := fun x => U x && (qf_PR N R D L x == p)) (P' := fun x => U' x && (qf_PR N R D' L' x == p)) (N := N) (z := z) (s := s) (e := e) (by omega) hse hez
      (fun x x1 x2 => by
        show (U' x && (qf_PR N R D' L' x == p)) = (U x && (qf_PR N R D L x == p))
        unfold qf_PR
        rw [u1 x x1 x2, d1 x x1 x2, l1 x x1 x2])
      (fun x x1 x2 => by
        show (U' x && (qf_PR N R D' L' x == p)) = (U (x - 1) && (qf_PR N R D L (x - 1) == p))
        have h1 := haf (x - 1) (by omega) (by omega)
        have h2 := own (x - 1) (by omega) h1.1
        have h3 := ow' x (by omega) (by omega) (u3 x x1 x2)
        rw [u3 x x1 x2, h1.1, qf_PR_own h3.1 h3.2, qf_PR_own (x := x - 1) (by omega) (by omega), d3 x x1 x2, l3 x x1 x2, show x - (D (x - 1) + 1) = x - 1 - D (x - 1) by omega])
      (by show (U e && (qf_PR N R D L e == p)) = false; rw [hfe]; rfl)
      (fun x x1 x2 => by
        show (U' x && (qf_PR N R D' L' x == p)) = (U x && (qf_PR N R D L x == p))
        unfold qf_PR
        rw [u5 x x1 x2, d5 x x1 x2, l5 x x1 x2])
    have b1 := qf_ct_per (P := fun x => U' x && (qf_PR N R D' L' x == p)) pp' (z + 1)
    have b2 := qf_ct_per (P := fun x => U x && (qf_PR N R D L x == p)) pp (z + 1)
    rw [b1, b2] at a
    rw [a, ← hc p]
    show _ = c p + (if (U' s && (qf_PR N R D' L' s == p)) = true then 1 else 0)
    rw [u2, prs]
    simp only [Bool.true_and, beq_iff_eq]
end QFI
end
section
/-! FREEING a stretch behind a free place; the OWNERS that a reading finds; COUNTING a run -/
section QFF
variable {U Nm Go Pu U' Nm' Go' Pu' : Nat → Bool} {D L : Nat → Nat} {N R held z : Nat} {c : Nat → Nat}
theorem qf_ct_cut (P : Nat → Bool) (a m n k : Nat) (h : k = m + n) : qf_ct P a k = qf_ct P a m + qf_ct P (a + m) n := by
  rw [h, qf_ct_app]
theorem qf_pr_inj {R o l q w : Nat} (hl : l < R) (hw : w < R) (e : o * R + l = q * R + w) : o = q ∧ l = w := by
  have a := qf_pr_div (o := o) hl
  have b := qf_pr_div (o := q) hw
  have a' := qf_pr_mod (o := o) hl
  have b' := qf_pr_mod (o := q) hw
  rw [e, b] at a
  rw [e, b'] at a'
  exact ⟨a.symm, a'.symm⟩
theorem qf_PP_per (p : Nat) (qU : ∀ x, U (x + N) = U x) (qD : ∀ x, D (x + N) = D x) (qL : ∀ x, L (x + N) = L x) : ∀ x, (fun x => U x && (qf_PR N R D L x == p)) (x + N) = (fun x => U x && (qf_PR N R D L x == p)) x := fun x => by
  show (U (x + N) && (qf_PR N R D L (x + N) == p)) = (U x && (qf_PR N R D L x == p))
  rw [qU, qf_PR_per qD qL]
theorem qf_fre (hN : 0 < N) (I : qf_Iv N R U Nm Go Pu D L held c) (hz : U z = false) {b : Nat} (hb : z < b) (hbz : b ≤ z + N) (hall : ∀ t, z < t → t < b → U t = true) (hfb : U b = false)
    (pN : ∀ x, Nm' (x + N) = Nm' x) (pG : ∀ x, Go' (x + N) = Go' x) (pP : ∀ x, Pu' (x + N) = Pu' x) (hU : ∀ x, U' x = (Nm' x || Go' x || Pu' x))
    (n1 : ∀ x, z < x → x < b → Nm' x = false ∧ Go' x = false ∧ Pu' x = false) (n2 : ∀ x, b ≤ x → x ≤ z + N → Nm' x = Nm x ∧ Go' x = Go x ∧ Pu' x = Pu x) :
    ∃ (c1 : Nat → Nat) (held1 : Nat), qf_Iv N R U' Nm' Go' Pu' D L held1 c1 ∧ held = held1 + (b - (z + 1)) ∧ (∀ p, c p = c1 p + qf_ct (fun x => qf_PR N R D L x == p) (z + 1) (b - (z + 1))) ∧ ∀ Q w, z < Q → Q < b → w < R → c1 ((Q % N) * R + w) = 0 := by
  obtain ⟨hR, ⟨qU, qN, qG, qP, qD, qL⟩, hL, hct, hc⟩ := I
  have hzN : U (z + N) = false := by rw [qU]; exact hz
  have u1 : ∀ x, z < x → x < b → U' x = false := fun x x1 x2 => by
    obtain ⟨a1, a2, a3⟩ := n1 x x1 x2
    rw [hU, a1, a2, a3]; rfl
  have u2 : ∀ x, b ≤ x → x ≤ z + N → U' x = U x := fun x x1 x2 => by
    obtain ⟨a1, a2, a3⟩ := n2 x x1 x2
    rw [hU, a1, a2, a3, hR.2.2.2.2.2 x]
  have pU : ∀ x, U' (x + N) = U' x := fun x => by rw [hU, hU, pN, pG, pP]
  have gt : ∀ x, z < x → x ≤ z + N → U' x = true → b < x ∧ U x = true := by
    intro x x1 x2 hu
    rcases Nat.lt_trichotomy x b with q | q | q
    · rw [u1 x x1 q] at hu; cases hu
    · rw [q, u2 b (Nat.le_refl _) hbz, hfb] at hu; cases hu
    · rw [u2 x (by omega) x2] at hu
      exact ⟨q, hu⟩
  have ow : ∀ x, b < x → U x = true → b < x - D x ∧ D x + z < x := by
    intro x x1 hu
    have a := qf_dz hR hz (by omega) hu
    refine ⟨?_, a⟩
    rcases Nat.lt_or_ge b (x - D x) with q | q
    · exact q
    · have := qf_cont' hR hz (y := x) (t := b) (by omega) hu q (by omega)
      rw [hfb] at this; cases this
  have RI' : qf_RI U' Nm' Go' Pu' D := by
    refine qf_RI_of (z := z) hN pU pN pG pP qD ?_ ?_ ?_ ?_ ?_ ?_ hU
    · intro x x1 x2 hu hd
      obtain ⟨a, a'⟩ := gt (x + 1) (by omega) (by omega) hu
      rw [u2 x (by omega) (by omega)]
      exact hR.1 x a' hd
    · intro hu
      have := (gt (z + 1) (by omega) (by omega) hu).1
      omega
    · intro x x1 x2 hu
      obtain ⟨a, a'⟩ := gt (x + 1) (by omega) (by omega) hu
      rw [(n2 (x + 1) (by omega) (by omega)).2.1]
      exact hR.2.1 x a'
    · intro x x1 x2 hu
      obtain ⟨a, a'⟩ := gt x x1 x2 hu
      rw [(n2 x (by omega) x2).2.2]
      exact hR.2.2.1 x a'
    · intro x x1 x2 hu
      obtain ⟨a, a'⟩ := gt x x1 x2 hu
      have o := ow x a a'
      refine ⟨by omega, ?_⟩
      rw [(n2 (x - D x) (by omega) (by omega)).1]
      exact hR.2.2.2.1 x a' (by omega)
    · intro x x1 x2 hn
      have hx : b ≤ x := by
        rcases Nat.lt_or_ge x b with q | q
        · rw [(n1 x x1 q).1] at hn; cases hn
        · exact q
      rw [(n2 x hx x2).1] at hn
      obtain ⟨k, k1, k2⟩ := hR.2.2.2.2.1 x hn
      have hk : x + k < z + N := by
        rcases Nat.lt_or_ge (x + k) (z + N) with q | q
        · exact q
        · have := qf_cont' hR hz (y := x + k) (t := z + N) (by omega) k1 (by omega) q
          rw [hzN] at this; cases this
      exact ⟨k, by rw [u2 _ (by omega) (by omega)]; exact k1, k2⟩
  have hm : N = (b - (z + 1)) + (N - (b - (z + 1))) := by omega
  have e0 : z + 1 + (b - (z + 1)) = b := by omega
  refine ⟨fun p => qf_ct (fun x => U' x && (qf_PR N R D L x == p)) 0 N, qf_ct U' 0 N, ⟨RI', ⟨pU, pN, pG, pP, qD, qL⟩, ?_, rfl, fun _ => rfl⟩, ?_, ?_, ?_⟩
  · intro x hu
    rw [qf_per_wr hN qL z x]
    rw [qf_per_wr hN pU z x] at hu
    obtain ⟨x1, x2⟩ := qf_wr_in hN z x
    exact hL _ (gt _ x1 x2 hu).2
  · rw [← hct, ← qf_ct_per qU (z + 1), ← qf_ct_per pU (z + 1)]
    rw [qf_ct_cut U _ _ _ N hm, qf_ct_cut U' _ _ _ N hm, e0, qf_ct_all (P := U) (fun i hi => hall _ (by omega) (by omega)), qf_ct_0 (P := U') (fun i hi => u1 _ (by omega) (by omega)), qf_ct_sh (P := U') (P' := U) (fun i hi => u2 _ (by omega) (by omega))]
    omega
  · intro p
    have b1 := qf_ct_per (P := fun x => U x && (qf_PR N R D L x == p)) (qf_PP_per p qU qD qL) (z + 1)
    have b2 := qf_ct_per (P := fun x => U' x && (qf_PR N R D L x == p)) (qf_PP_per p pU qD qL) (z + 1)
    rw [hc p, ← b1]
    show _ = qf_ct (fun x => U' x && (qf_PR N R D L x == p)) 0 N + _
    rw [← b2, qf_ct_cut (fun x => U x && (qf_PR N R D L x == p)) _ _ _ N hm, qf_ct_cut (fun x => U' x && (qf_PR N R D L x == p)) _ _ _ N hm, e0,
      qf_ct_0 (P := fun x => U' x && (qf_PR N R D L x == p)) (a := z + 1) (n := b - (z + 1)) (fun i hi => by show (U' _ && _) = false; rw [u1 _ (by omega) (by omega)]; rfl),
      qf_ct_sh (P := fun x => U' x && (qf_PR N R D L x == p)) (P' := fun x => U x && (qf_PR N R D L x == p)) (a := b) (b := b) (n := N - (b - (z + 1))) (fun i hi => by show (U' _ && _) = (U _ && _); rw [u2 _ (by omega) (by omega)]),
      qf_ct_sh (P := fun x => U x && (qf_PR N R D L x == p)) (P' := fun x => qf_PR N R D L x == p) (a := z + 1) (b := z + 1) (n := b - (z + 1)) (fun i hi => by show (U _ && _) = _; rw [hall _ (by omega) (by omega)]; rfl)]
    omega
  · intro Q w hQ1 hQ2 hw
    have b2 := qf_ct_per (P := fun x => U' x && (qf_PR N R D L x == (Q % N) * R + w)) (qf_PP_per _ pU qD qL) (z + 1)
    show qf_ct (fun x => U' x && (qf_PR N R D L x == (Q % N) * R + w)) 0 N = 0
    rw [← b2]
    refine qf_ct_0 (fun i hi => ?_)
    show (U' _ && _) = false
    cases hu : U' (z + 1 + i) with
    | false => rfl
    | true =>
      obtain ⟨a, a'⟩ := gt _ (by omega) (by omega) hu
      have o := ow _ a a'
      rw [qf_PR_own (by omega) (by omega)]
      cases he : (((z + 1 + i - D (z + 1 + i)) % N * R + L (z + 1 + i)) == (Q % N * R + w)) with
      | false => rfl
      | true =>
        have := (qf_pr_inj (hL _ a') hw (beq_iff_eq.mp he)).1
        have := qf_win_inj (N := N) (z := z) this (by omega) (by omega) (by omega) (by omega)
        omega
/-- whose run a used place belongs to, from the place before it -/
theorem qf_rdo (hR : qf_RI U Nm Go Pu D) (hz : U z = false) {t : Nat} (ht : z < t) (hu : U t = true) :
    (Pu t = false → D t = 0) ∧ (Pu t = true → z < t - 1 ∧ U (t - 1) = true) ∧ (Pu t = true → Go t = true → t - D t = (t - 1) - D (t - 1)) ∧
    (Pu t = true → Go t = false → (t - 1) - D (t - 1) < t - D t ∧ (∀ y, (t - 1) - D (t - 1) < y → y < t - D t → Nm y = false) ∧ Nm (t - D t) = true) := by
  have e : t - 1 + 1 = t := by omega
  have st : Pu t = true → z < t - 1 ∧ U (t - 1) = true := fun hp => by
    obtain ⟨a, b, _⟩ := qf_step hR hz ht hu ((hR.2.2.1 t hu).mp hp)
    exact ⟨b, a⟩
  refine ⟨fun hp => ?_, st, fun hp hg => ?_, fun hp hg => ?_⟩
  · rcases Nat.eq_zero_or_pos (D t) with q | q
    · exact q
    · have := (hR.2.2.1 t hu).mpr q
      rw [hp] at this; cases this
  · obtain ⟨a, b⟩ := st hp
    have := (qf_go_iff hR hz (x := t - 1) a b (by rw [e]; exact hu)).mp (by rw [e]; exact hg)
    rw [e] at this
    exact this
  · obtain ⟨a, b⟩ := st hp
    have m := qf_mono' hR hz (x := t - 1) (y := t) a (by omega) b hu
    have g := qf_go_iff hR hz (x := t - 1) a b (by rw [e]; exact hu)
    rw [e] at g
    have hne : ¬ (t - D t = t - 1 - D (t - 1)) := fun r => by
      have := g.mpr r
      rw [hg] at this; cases this
    have d := qf_dz hR hz ht hu
    have d' := qf_dz hR hz a b
    refine ⟨by omega, fun y y1 y2 => ?_, hR.2.2.2.1 t hu (by omega)⟩
    cases hn : Nm y with
    | false => rfl
    | true =>
      obtain ⟨k, k1, k2⟩ := hR.2.2.2.2.1 y hn
      rcases Nat.lt_or_ge (y + k) t with q | q
      · have := qf_mono' hR hz (x := y + k) (y := t - 1) (by omega) (by omega) k1 b
        omega
      · have := qf_mono' hR hz (x := t) (y := y + k) ht q hu k1
        omega
/-- a slot that is not named has none of its fingerprints -/
theorem qf_none (hN : 0 < N) (I : qf_Iv N R U Nm Go Pu D L held c) (hz : U z = false) {Q w : Nat} (hQ : Nm Q = false) (hw : w < R) : c ((Q % N) * R + w) = 0 := by
  obtain ⟨hR, ⟨qU, qN, qG, qP, qD, qL⟩, hL, hct, hc⟩ := I
  have b1 := qf_ct_per (P := fun x => U x && (qf_PR N R D L x == (Q % N) * R + w)) (qf_PP_per _ qU qD qL) (z + 1)
  rw [hc, ← b1]
  refine qf_ct_0 (fun i hi => ?_)
  show (U _ && _) = false
  cases hu : U (z + 1 + i) with
  | false => rfl
  | true =>
    have o := qf_dz hR hz (x := z + 1 + i) (by omega) hu
    rw [qf_PR_own (by omega) (by omega)]
    cases he : (((z + 1 + i - D (z + 1 + i)) % N * R + L (z + 1 + i)) == (Q % N * R + w)) with
    | false => rfl
    | true =>
      have e := (qf_pr_inj (hL _ hu) hw (beq_iff_eq.mp he)).1
      have n := hR.2.2.2.1 _ hu (by omega)
      rw [qf_per_eq qN e, hQ] at n
      cases n
/-- counting along the run of a named slot -/
theorem qf_tms (hN : 0 < N) (I : qf_Iv N R U Nm Go Pu D L held c) (hz : U z = false) {Q S : Nat} (hQ1 : z < Q) (hQ2 : Q ≤ z + N) (hQ : Nm Q = true) (hS : qf_ST U D Q S) :
    ∃ E, S < E ∧ E ≤ z + N ∧ (∀ t, S < t → t < E → Go t = true) ∧ Go E = false ∧ (∀ t, S ≤ t → t < E → U t = true ∧ t - D t = Q) ∧ ∀ w, w < R → qf_ct (fun x => L x == w) S (E - S) = c ((Q % N) * R + w) := by
  obtain ⟨hR, ⟨qU, qN, qG, qP, qD, qL⟩, hL, hct, hc⟩ := I
  have hzN : U (z + N) = false := by rw [qU]; exact hz
  obtain ⟨us, os⟩ := qf_ST_own hR hz hQ1 hQ hS
  obtain ⟨s1, s2, s3⟩ := hS
  have uQ := hR.nm_u hQ
  have hQz : Q ≠ z + N := fun q1 => by rw [q1, hzN] at uQ; cases uQ
  have hsz : S < z + N := by
    rcases Nat.lt_or_ge S (z + N) with r | r
    · exact r
    · rcases Nat.eq_or_lt_of_le r with r1 | r1
      · rw [← r1, hzN] at us; cases us
      · have := (s2 (z + N) (by omega) r1).1
        rw [hzN] at this; cases this
  have hgz : Go (z + N) = false := by
    cases e : Go (z + N) with
    | false => rfl
    | true => have := hR.go_u e; rw [hzN] at this; cases this
  obtain ⟨E, a1, a2, a3, a4⟩ := qf_first' (P := Go) (a := S + 1) (b := z + N) (by omega) hgz
  have a3' : ∀ t, S < t → t < E → Go t = true := fun t t1 t2 => a3 t t1 t2
  have hrun : ∀ t, S ≤ t → t < E → U t = true ∧ t - D t = Q := fun t t1 t2 => by
    have := qf_run' hR hz (by omega) us a3' t1 t2
    exact ⟨this.1, by omega⟩
  refine ⟨E, by omega, a2, a3', a4, hrun, fun w hw => ?_⟩
  have inrun : ∀ x, z < x → x ≤ z + N → U x = true → x - D x = Q → S ≤ x ∧ x < E := by
    intro x x1 x2 hu ho
    have d := qf_dz hR hz x1 hu
    have h1 : S ≤ x := by
      rcases Nat.lt_or_ge x S with q | q
      · have := (s2 x (by omega) q).2
        omega
      · exact q
    refine ⟨h1, ?_⟩
    rcases Nat.lt_or_ge x E with q | q
    · exact q
    · have uE := qf_cont' hR hz (y := x) (t := E) x1 hu (by omega) q
      have m1 := qf_mono' hR hz (x := E) (y := x) (by omega) q uE hu
      have l1 := hrun (E - 1) (by omega) (by omega)
      have m2 := qf_mono' hR hz (x := E - 1) (y := E) (by omega) (by omega) l1.1 uE
      have g := qf_go_iff hR hz (x := E - 1) (by omega) l1.1 (by rw [show E - 1 + 1 = E by omega]; exact uE)
      rw [show E - 1 + 1 = E by omega] at g
      have := g.mpr (by omega)
      rw [a4] at this; cases this
  have off : ∀ x, z < x → x ≤ z + N → ¬ (S ≤ x ∧ x < E) → (U x && (qf_PR N R D L x == (Q % N) * R + w)) = false := by
    intro x x1 x2 hx
    cases hu : U x with
    | false => rfl
    | true =>
      have o := qf_dz hR hz x1 hu
      rw [qf_PR_own (by omega) (by omega)]
      cases he : (((x - D x) % N * R + L x) == (Q % N * R + w)) with
      | false => rfl
      | true =>
        have e := (qf_pr_inj (hL _ hu) hw (beq_iff_eq.mp he)).1
        have := qf_win_inj (N := N) (z := z) e (by omega) (by omega) hQ1 hQ2
        exact absurd (inrun x x1 x2 hu this) hx
  have b1 := qf_ct_per (P := fun x => U x && (qf_PR N R D L x == (Q % N) * R + w)) (qf_PP_per _ qU qD qL) (z + 1)
  rw [hc, ← b1]
  have hm : N = (S - (z + 1)) + ((E - S) + (z + 1 + N - E)) := by omega
  rw [qf_ct_cut (fun x => U x && (qf_PR N R D L x == (Q % N) * R + w)) _ _ _ N hm, qf_ct_app, show z + 1 + (S - (z + 1)) = S by omega, show S + (E - S) = E by omega,
    qf_ct_0 (P := fun x => U x && (qf_PR N R D L x == (Q % N) * R + w)) (a := z + 1) (n := S - (z + 1)) (fun i hi => off _ (by omega) (by omega) (by omega)),
    qf_ct_0 (P := fun x => U x && (qf_PR N R D L x == (Q % N) * R + w)) (a := E) (n := z + 1 + N - E) (fun i hi => off _ (by omega) (by omega) (by omega)), Nat.zero_add, Nat.add_zero]
  refine qf_ct_sh (fun i hi => ?_)
  show (L (S + i) == w) = (U (S + i) && (qf_PR N R D L (S + i) == (Q % N) * R + w))
  obtain ⟨r1, r2⟩ := hrun (S + i) (by omega) (by omega)
  have o := qf_dz hR hz (x := S + i) (by omega) r1
  rw [r1, qf_PR_own (by omega) (by omega), r2, Bool.true_and]
  cases h1 : (L (S + i) == w) with
  | true => rw [beq_iff_eq.mp h1]; exact (beq_iff_eq.mpr rfl).symm
  | false =>
    cases h2 : (Q % N * R + L (S + i) == Q % N * R + w) with
    | false => rfl
    | true =>
      have := (qf_pr_inj (hL _ r1) hw (beq_iff_eq.mp h2)).2
      rw [this] at h1
      have : (w == w) = true := beq_iff_eq.mpr rfl
      rw [this] at h1
      cases h1
end QFF
end
section
/-! ROWS for the state (va_up F f G, rc, rd): filter f is G, the other is as F has it -/
section QFY
variable {p : Program} {l : Launch} {e : Env} {R : Room} {s : State} {m : MethodId} {args : Array Value} {below : List Frame} {meth : Method} {c : Code} {H H0 : Heap} {locs : List Loc} {cells slots : Nat} {Q : State → Prop} {cc : ByteArray} {pc nL : Nat} {ls : Array Slot} {rest : List Value} {g : Nat → Nat} {dC : Nat → ClassId} {dI : Nat → Nat → Nat} {dA : Nat → ClassId} {F : Nat → qf_FS} {f : Nat} {G : qf_FS} {rc : Nat} {rd : Nat → Nat}
theorem yl_B (S : CallFix p m c cc nL s args lw_all RX0) (hK : va_K (dC, dI) qf_cl (qf_tys dA) s) (hP : va_P (dC, dI) qf_cl (qf_w g dA (va_up F f G, rc, rd)) H) (hf : f < 2) (hdg : decode cc pc = .ok (.baload, 1)) (kk : W p l e R s m args below meth c H locs cells slots Q (F0 m (pc + 1) ls (.int (nI (qf_B G)) :: rest))) : W p l e R s m args below meth c H locs cells slots Q (F0 m pc ls (.int (nI f) :: .ref (g 1) :: rest)) := by
  refine xl_B S hK hP hf hdg ?_
  show W p l e R s m args below meth c H locs cells slots Q (F0 m (pc + 1) ls (.int (nI (qf_B (va_up F f G f))) :: rest))
  rw [qf_at]
  exact kk
theorem yl_H (S : CallFix p m c cc nL s args lw_all RX0) (hK : va_K (dC, dI) qf_cl (qf_tys dA) s) (hP : va_P (dC, dI) qf_cl (qf_w g dA (va_up F f G, rc, rd)) H) (hf : f < 2) (hdg : decode cc pc = .ok (.baload, 1)) (kk : W p l e R s m args below meth c H locs cells slots Q (F0 m (pc + 1) ls (.int (nI (qf_H G)) :: rest))) : W p l e R s m args below meth c H locs cells slots Q (F0 m pc ls (.int (nI f) :: .ref (g 2) :: rest)) := by
  refine xl_H S hK hP hf hdg ?_
  show W p l e R s m args below meth c H locs cells slots Q (F0 m (pc + 1) ls (.int (nI (qf_H (va_up F f G f))) :: rest))
  rw [qf_at]
  exact kk
theorem yl_L {x : Nat} {i : Int32} (S : CallFix p m c cc nL s args lw_all RX0) (hK : va_K (dC, dI) qf_cl (qf_tys dA) s) (hP : va_P (dC, dI) qf_cl (qf_w g dA (va_up F f G, rc, rd)) H) (hi : i = nI (64 * f + x)) (hf : f < 2) (hx : x < 64) (hdg : decode cc pc = .ok (.baload, 1)) (kk : W p l e R s m args below meth c H locs cells slots Q (F0 m (pc + 1) ls (.int (nI (qf_L G x)) :: rest))) : W p l e R s m args below meth c H locs cells slots Q (F0 m pc ls (.int i :: .ref (g 3) :: rest)) := by
  refine xl_L S hK hP hi hf hx hdg ?_
  show W p l e R s m args below meth c H locs cells slots Q (F0 m (pc + 1) ls (.int (nI (qf_L (va_up F f G f) x)) :: rest))
  rw [qf_at]
  exact kk
theorem yl_N {x : Nat} {i : Int32} (S : CallFix p m c cc nL s args lw_all RX0) (hK : va_K (dC, dI) qf_cl (qf_tys dA) s) (hP : va_P (dC, dI) qf_cl (qf_w g dA (va_up F f G, rc, rd)) H) (hi : i = nI (64 * f + x)) (hf : f < 2) (hx : x < 64) (hdg : decode cc pc = .ok (.baload, 1)) (kk : W p l e R s m args below meth c H locs cells slots Q (F0 m (pc + 1) ls (.int (qf_b (qf_N G x)) :: rest))) : W p l e R s m args below meth c H locs cells slots Q (F0 m pc ls (.int i :: .ref (g 4) :: rest)) := by
  refine xl_N S hK hP hi hf hx hdg ?_
  show W p l e R s m args below meth c H locs cells slots Q (F0 m (pc + 1) ls (.int (qf_b (qf_N (va_up F f G f) x)) :: rest))
  rw [qf_at]
  exact kk
theorem yl_O {x : Nat} {i : Int32} (S : CallFix p m c cc nL s args lw_all RX0) (hK : va_K (dC, dI) qf_cl (qf_tys dA) s) (hP : va_P (dC, dI) qf_cl (qf_w g dA (va_up F f G, rc, rd)) H) (hi : i = nI (64 * f + x)) (hf : f < 2) (hx : x < 64) (hdg : decode cc pc = .ok (.baload, 1)) (kk : W p l e R s m args below meth c H locs cells slots Q (F0 m (pc + 1) ls (.int (qf_b (qf_O G x)) :: rest))) : W p l e R s m args below meth c H locs cells slots Q (F0 m pc ls (.int i :: .ref (g 5) :: rest)) := by
  refine xl_O S hK hP hi hf hx hdg ?_
  show W p l e R s m args below meth c H locs cells slots Q (F0 m (pc + 1) ls (.int (qf_b (qf_O (va_up F f G f) x)) :: rest))
  rw [qf_at]
  exact kk
theorem yl_P {x : Nat} {i : Int32} (S : CallFix p m c cc nL s args lw_all RX0) (hK : va_K (dC, dI) qf_cl (qf_tys dA) s) (hP : va_P (dC, dI) qf_cl (qf_w g dA (va_up F f G, rc, rd)) H) (hi : i = nI (64 * f + x)) (hf : f < 2) (hx : x < 64) (hdg : decode cc pc = .ok (.baload, 1)) (kk : W p l e R s m args below meth c H locs cells slots Q (F0 m (pc + 1) ls (.int (qf_b (qf_P G x)) :: rest))) : W p l e R s m args below meth c H locs cells slots Q (F0 m pc ls (.int i :: .ref (g 6) :: rest)) := by
  refine xl_P S hK hP hi hf hx hdg ?_
  show W p l e R s m args below meth c H locs cells slots Q (F0 m (pc + 1) ls (.int (qf_b (qf_P (va_up F f G f) x)) :: rest))
  rw [qf_at]
  exact kk
theorem ys_B {v : Nat} {y : Int32} (S : CallFix p m c cc nL s args lw_all RX0) (hK : va_K (dC, dI) qf_cl (qf_tys dA) s) (hP : va_P (dC, dI) qf_cl (qf_w g dA (va_up F f G, rc, rd)) H) (hg : qf_dj g) (hS : va_S (qf_A g) H0 H locs) (hy : y = nI v) (hv : v < 128) (hf : f < 2) (hdg : decode cc pc = .ok (.bastore, 1)) (kk : ∀ (H1 : Heap) (locs1 : List Loc), va_P (dC, dI) qf_cl (qf_w g dA (va_up F f (qf_setB G v), rc, rd)) H1 → va_S (qf_A g) H0 H1 locs1 → W p l e R s m args below meth c H1 locs1 cells slots Q (F0 m (pc + 1) ls rest)) : W p l e R s m args below meth c H locs cells slots Q (F0 m pc ls (.int y :: .int (nI f) :: .ref (g 1) :: rest)) := by
  refine xs_B S hK hP hg hS hy hv hf hdg (fun H1 locs1 hP1 hS1 => kk H1 locs1 ?_ hS1)
  have e1 : (va_up (va_up F f G) f (qf_setB (va_up F f G f) v), rc, rd) = (va_up F f (qf_setB G v), rc, rd) := by rw [qf_at, qf_upup]
  rw [← e1]
  exact hP1
theorem ys_H {v : Nat} {y : Int32} (S : CallFix p m c cc nL s args lw_all RX0) (hK : va_K (dC, dI) qf_cl (qf_tys dA) s) (hP : va_P (dC, dI) qf_cl (qf_w g dA (va_up F f G, rc, rd)) H) (hg : qf_dj g) (hS : va_S (qf_A g) H0 H locs) (hy : y = nI v) (hv : v < 128) (hf : f < 2) (hdg : decode cc pc = .ok (.bastore, 1)) (kk : ∀ (H1 : Heap) (locs1 : List Loc), va_P (dC, dI) qf_cl (qf_w g dA (va_up F f (qf_setH G v), rc, rd)) H1 → va_S (qf_A g) H0 H1 locs1 → W p l e R s m args below meth c H1 locs1 cells slots Q (F0 m (pc + 1) ls rest)) : W p l e R s m args below meth c H locs cells slots Q (F0 m pc ls (.int y :: .int (nI f) :: .ref (g 2) :: rest)) := by
  refine xs_H S hK hP hg hS hy hv hf hdg (fun H1 locs1 hP1 hS1 => kk H1 locs1 ?_ hS1)
  have e1 : (va_up (va_up F f G) f (qf_setH (va_up F f G f) v), rc, rd) = (va_up F f (qf_setH G v), rc, rd) := by rw [qf_at, qf_upup]
  rw [← e1]
  exact hP1
theorem ys_L {x : Nat} {v : Nat} {i y : Int32} (S : CallFix p m c cc nL s args lw_all RX0) (hK : va_K (dC, dI) qf_cl (qf_tys dA) s) (hP : va_P (dC, dI) qf_cl (qf_w g dA (va_up F f G, rc, rd)) H) (hg : qf_dj g) (hS : va_S (qf_A g) H0 H locs) (hi : i = nI (64 * f + x)) (hy : y = nI v) (hv : v < 128) (hf : f < 2) (hx : x < 64) (hdg : decode cc pc = .ok (.bastore, 1)) (kk : ∀ (H1 : Heap) (locs1 : List Loc), va_P (dC, dI) qf_cl (qf_w g dA (va_up F f (qf_setL G x v), rc, rd)) H1 → va_S (qf_A g) H0 H1 locs1 → W p l e R s m args below meth c H1 locs1 cells slots Q (F0 m (pc + 1) ls rest)) : W p l e R s m args below meth c H locs cells slots Q (F0 m pc ls (.int y :: .int i :: .ref (g 3) :: rest)) := by
  refine xs_L S hK hP hg hS hi hy hv hf hx hdg (fun H1 locs1 hP1 hS1 => kk H1 locs1 ?_ hS1)
  have e1 : (va_up (va_up F f G) f (qf_setL (va_up F f G f) x v), rc, rd) = (va_up F f (qf_setL G x v), rc, rd) := by rw [qf_at, qf_upup]
  rw [← e1]
  exact hP1
theorem ys_N {x : Nat} {v : Bool} {i y : Int32} (S : CallFix p m c cc nL s args lw_all RX0) (hK : va_K (dC, dI) qf_cl (qf_tys dA) s) (hP : va_P (dC, dI) qf_cl (qf_w g dA (va_up F f G, rc, rd)) H) (hg : qf_dj g) (hS : va_S (qf_A g) H0 H locs) (hi : i = nI (64 * f + x)) (hy : y = qf_b v) (hf : f < 2) (hx : x < 64) (hdg : decode cc pc = .ok (.bastore, 1)) (kk : ∀ (H1 : Heap) (locs1 : List Loc), va_P (dC, dI) qf_cl (qf_w g dA (va_up F f (qf_setN G x v), rc, rd)) H1 → va_S (qf_A g) H0 H1 locs1 → W p l e R s m args below meth c H1 locs1 cells slots Q (F0 m (pc + 1) ls rest)) : W p l e R s m args below meth c H locs cells slots Q (F0 m pc ls (.int y :: .int i :: .ref (g 4) :: rest)) := by
  refine xs_N S hK hP hg hS hi hy hf hx hdg (fun H1 locs1 hP1 hS1 => kk H1 locs1 ?_ hS1)
  have e1 : (va_up (va_up F f G) f (qf_setN (va_up F f G f) x v), rc, rd) = (va_up F f (qf_setN G x v), rc, rd) := by rw [qf_at, qf_upup]
  rw [← e1]
  exact hP1
theorem ys_O {x : Nat} {v : Bool} {i y : Int32} (S : CallFix p m c cc nL s args lw_all RX0) (hK : va_K (dC, dI) qf_cl (qf_tys dA) s) (hP : va_P (dC, dI) qf_cl (qf_w g dA (va_up F f G, rc, rd)) H) (hg : qf_dj g) (hS : va_S (qf_A g) H0 H locs) (hi : i = nI (64 * f + x)) (hy : y = qf_b v) (hf : f < 2) (hx : x < 64) (hdg : decode cc pc = .ok (.bastore, 1)) (kk : ∀ (H1 : Heap) (locs1 : List Loc), va_P (dC, dI) qf_cl (qf_w g dA (va_up F f (qf_setO G x v), rc, rd)) H1 → va_S (qf_A g) H0 H1 locs1 → W p l e R s m args below meth c H1 locs1 cells slots Q (F0 m (pc + 1) ls rest)) : W p l e R s m args below meth c H locs cells slots Q (F0 m pc ls (.int y :: .int i :: .ref (g 5) :: rest)) := by
  refine xs_O S hK hP hg hS hi hy hf hx hdg (fun H1 locs1 hP1 hS1 => kk H1 locs1 ?_ hS1)
  have e1 : (va_up (va_up F f G) f (qf_setO (va_up F f G f) x v), rc, rd) = (va_up F f (qf_setO G x v), rc, rd) := by rw [qf_at, qf_upup]
  rw [← e1]
  exact hP1
theorem ys_P {x : Nat} {v : Bool} {i y : Int32} (S : CallFix p m c cc nL s args lw_all RX0) (hK : va_K (dC, dI) qf_cl (qf_tys dA) s) (hP : va_P (dC, dI) qf_cl (qf_w g dA (va_up F f G, rc, rd)) H) (hg : qf_dj g) (hS : va_S (qf_A g) H0 H locs) (hi : i = nI (64 * f + x)) (hy : y = qf_b v) (hf : f < 2) (hx : x < 64) (hdg : decode cc pc = .ok (.bastore, 1)) (kk : ∀ (H1 : Heap) (locs1 : List Loc), va_P (dC, dI) qf_cl (qf_w g dA (va_up F f (qf_setP G x v), rc, rd)) H1 → va_S (qf_A g) H0 H1 locs1 → W p l e R s m args below meth c H1 locs1 cells slots Q (F0 m (pc + 1) ls rest)) : W p l e R s m args below meth c H locs cells slots Q (F0 m pc ls (.int y :: .int i :: .ref (g 6) :: rest)) := by
  refine xs_P S hK hP hg hS hi hy hf hx hdg (fun H1 locs1 hP1 hS1 => kk H1 locs1 ?_ hS1)
  have e1 : (va_up (va_up F f G) f (qf_setP (va_up F f G f) x v), rc, rd) = (va_up F f (qf_setP G x v), rc, rd) := by rw [qf_at, qf_upup]
  rw [← e1]
  exact hP1
end QFY
end
section
/-! THE LEAVES of QuotientFilter: contracts, and a row a call -/
set_option maxHeartbeats 4000000 in
set_option maxRecDepth 100000 in
/-- isFilter: 0 and 1 are -/
theorem met_isFilter (l : Launch) (dC : Nat → ClassId) (dI : Nat → Nat → Nat) (dA : Nat → ClassId) (g : Nat → Nat) (u : qf_QS) (x : Int32) : Met l yX0_isFilter (ws_ yX0_isFilter cX0_isFilter 2 (some .boolean)) ({ frames := 0, cells := 0, slots := 0, locals := 0 }) (qf_Pc g dA dC dI u [.int x]) (vp_Si (fun r => r = qf_b (decide (x = 0 ∨ x = 1)))) 0 0 (fun _ => False) := by
  refine qf_met (by decide) rfl (Nat.le_of_ble_eq_true rfl) ?_
  intro p e s m below meth c ls S hr hlocks hP hK hl
  have hR : qf_RM ({ frames := 0, cells := 0, slots := 0, locals := 0 }) 0 0 := ⟨Nat.le_refl _, Nat.le_refl _⟩
  have hl : lv_has ls 2 [(0, .ref (g 0)), (1, .int x)] := hl
  refine lv_iload_n S.1 S.2.1 dX0_isFilter_0 rfl (lv_at hl 1 rfl) ?_
  refine lv_if_eq (tgt := 9) S.1 S.2.1 dX0_isFilter_1 (by decide) (fun h1 => ?_) (fun h1 => ?_)
  · refine lv_iconst (v := nI 1) S.1 S.2.1 dX0_isFilter_9 (by decide) ?_
    refine lv_goto (tgt := 14) S.1 S.2.1 dX0_isFilter_10 (by decide) ?_
    exact W.zret S.1 S.2.1 hr rfl (fun t ht hW => ⟨_, rfl, by rw [h1]; rfl, ht⟩) (fun _ h => by cases h) dX0_isFilter_14
  · refine lv_iload_n S.1 S.2.1 dX0_isFilter_4 rfl (lv_at hl 1 rfl) ?_
    refine lv_iconst (v := 1) S.1 S.2.1 dX0_isFilter_5 (by decide) ?_
    refine lv_icmp_ne (tgt := 13) S.1 S.2.1 dX0_isFilter_6 (by decide) (fun h2 => ?_) (fun h2 => ?_)
    · refine lv_iconst (v := nI 0) S.1 S.2.1 dX0_isFilter_13 (by decide) ?_
      exact W.zret S.1 S.2.1 hr rfl (fun t ht hW => ⟨_, rfl, by rw [decide_eq_false (fun h => h.elim h1 h2)]; rfl, ht⟩) (fun _ h => by cases h) dX0_isFilter_14
    · refine lv_iconst (v := nI 1) S.1 S.2.1 dX0_isFilter_9 (by decide) ?_
      refine lv_goto (tgt := 14) S.1 S.2.1 dX0_isFilter_10 (by decide) ?_
      exact W.zret S.1 S.2.1 hr rfl (fun t ht hW => ⟨_, rfl, by rw [decide_eq_true (Or.inr h2)]; rfl, ht⟩) (fun _ h => by cases h) dX0_isFilter_14
set_option maxHeartbeats 4000000 in
set_option maxRecDepth 100000 in
/-- printOf -/
theorem met_printOf (l : Launch) (dC : Nat → ClassId) (dI : Nat → Nat → Nat) (dA : Nat → ClassId) (g : Nat → Nat) (u : qf_QS) (x : Int32) : Met l yX0_printOf (ws_ yX0_printOf cX0_printOf 2 (some .int)) ({ frames := 0, cells := 0, slots := 0, locals := 0 }) (qf_Pc g dA dC dI u [.int x]) (vp_Si (fun r => r = nI (qf_hash x))) 0 0 (fun _ => False) := by
  refine qf_met (by decide) rfl (Nat.le_of_ble_eq_true rfl) ?_
  intro p e s m below meth c ls S hr hlocks hP hK hl
  have hR : qf_RM ({ frames := 0, cells := 0, slots := 0, locals := 0 }) 0 0 := ⟨Nat.le_refl _, Nat.le_refl _⟩
  have hl : lv_has ls 2 [(0, .ref (g 0)), (1, .int x)] := hl
  refine lv_iload_n S.1 S.2.1 dX0_printOf_0 rfl (lv_at hl 1 rfl) ?_
  refine lv_ldc (v := -1640531535) S.1 S.2.1 S.2.2.2.1 (S.2.2.2.2 _ q75) dX0_printOf_1 ?_
  refine lv_imul S.1 S.2.1 dX0_printOf_3 ?_
  refine lv_bipush (v := nI 24) S.1 S.2.1 dX0_printOf_4 (by decide) ?_
  refine lv_iushr (v := nI (qf_hash x)) S.1 S.2.1 dX0_printOf_6 (qn_hash x) ?_
  exact W.iret S.1 S.2.1 hr (fun t ht hW => ⟨_, rfl, rfl, ht⟩) (fun _ h => by cases h) dX0_printOf_7
set_option maxHeartbeats 4000000 in
set_option maxRecDepth 100000 in
/-- base -/
theorem met_base (l : Launch) (dC : Nat → ClassId) (dI : Nat → Nat → Nat) (dA : Nat → ClassId) (g : Nat → Nat) (u : qf_QS) (f : Nat) : Met l yX0_base (ws_ yX0_base cX0_base 2 (some .int)) ({ frames := 0, cells := 0, slots := 0, locals := 0 }) (qf_Pc g dA dC dI u [.int (nI f)]) (vp_Si (fun r => r = nI (64 * f))) 0 0 (fun _ => False) := by
  refine qf_met (by decide) rfl (Nat.le_of_ble_eq_true rfl) ?_
  intro p e s m below meth c ls S hr hlocks hP hK hl
  have hR : qf_RM ({ frames := 0, cells := 0, slots := 0, locals := 0 }) 0 0 := ⟨Nat.le_refl _, Nat.le_refl _⟩
  have hl : lv_has ls 2 [(0, .ref (g 0)), (1, .int (nI f))] := hl
  refine lv_bipush (v := nI 64) S.1 S.2.1 dX0_base_0 (by decide) ?_
  refine lv_iload_n S.1 S.2.1 dX0_base_2 rfl (lv_at hl 1 rfl) ?_
  refine lv_imul S.1 S.2.1 dX0_base_3 ?_
  refine qf_top (pk_mul _ _) ?_
  exact W.iret S.1 S.2.1 hr (fun t ht hW => ⟨_, rfl, rfl, ht⟩) (fun _ h => by cases h) dX0_base_4
set_option maxHeartbeats 4000000 in
set_option maxRecDepth 100000 in
/-- slots -/
theorem met_slots (l : Launch) (dC : Nat → ClassId) (dI : Nat → Nat → Nat) (dA : Nat → ClassId) (g : Nat → Nat) (F : Nat → qf_FS) (f : Nat) (G : qf_FS) (rc : Nat) (rd : Nat → Nat) (b : Nat) (hf : f < 2) (hGb : qf_B G = b) (hB : qf_bk b) : Met l yX0_slots (ws_ yX0_slots cX0_slots 2 (some .int)) ({ frames := 0, cells := 0, slots := 0, locals := 0 }) (qf_Pc g dA dC dI (va_up F f G, rc, rd) [.int (nI f)]) (vp_Si (fun r => r = nI (2 ^ b))) 0 0 (fun _ => False) := by
  refine qf_met (by decide) rfl (Nat.le_of_ble_eq_true rfl) ?_
  intro p e s m below meth c ls S hr hlocks hP hK hl
  have hR : qf_RM ({ frames := 0, cells := 0, slots := 0, locals := 0 }) 0 0 := ⟨Nat.le_refl _, Nat.le_refl _⟩
  have hl : lv_has ls 2 [(0, .ref (g 0)), (1, .int (nI f))] := hl
  refine lv_iconst (v := nI 1) S.1 S.2.1 dX0_slots_0 (by decide) ?_
  refine lv_aload_n S.1 S.2.1 dX0_slots_1 rfl (lv_at hl 0 rfl) ?_
  refine xg_B S hK hP dX0_slots_2 ?_
  refine lv_iload_n S.1 S.2.1 dX0_slots_5 rfl (lv_at hl 1 rfl) ?_
  refine yl_B S hK hP hf dX0_slots_6 ?_
  refine qf_top (congrArg nI hGb) ?_
  refine lv_ishl S.1 S.2.1 dX0_slots_7 ?_
  refine qf_top (qn_shl1 hB) ?_
  exact W.iret S.1 S.2.1 hr (fun t ht hW => ⟨_, rfl, rfl, ht⟩) (fun _ h => by cases h) dX0_slots_8
section QFL1
variable {p : Program} {l : Launch} {e : Env} {R : Room} {s : State} {m : MethodId} {args : Array Value} {below : List Frame} {meth : Method} {c : Code} {H H0 : Heap} {locs : List Loc} {cells slots : Nat} {Q : State → Prop} {cc : ByteArray} {pc nL : Nat} {ls : Array Slot} {rest : List Value} {g : Nat → Nat} {dC : Nat → ClassId} {dI : Nat → Nat → Nat} {dA : Nat → ClassId} {F : Nat → qf_FS} {f : Nat} {G : qf_FS} {rc : Nat} {rd : Nat → Nat} {u : qf_QS}
theorem yc_isFilter {x : Int32} (S : CallFix p m c cc nL s args lw_all RX0) (hK : va_K (dC, dI) qf_cl (qf_tys dA) s) (hP : va_P (dC, dI) qf_cl (qf_w g dA u) H)  (hR : qf_RM R 1 (8 + (2 + 11) + 0)) (hsz : ls.size = nL) (hroom : (rest.map fun v => v.category).sum ≤ 8) (hdg : decode cc pc = .ok (.invokevirtual 33, 3)) (kk : W p l e R s m args below meth c H locs 0 0 Q (F0 m (pc + 3) ls (.int (qf_b (decide (x = 0 ∨ x = 1))) :: rest))) : W p l e R s m args below meth c H locs 0 0 Q (F0 m pc ls (.int x :: .ref (g 0) :: rest)) :=
  qf_callR S hK hP (met_isFilter l dC dI dA g u x) (lw_V q63 q65 qs0 q21 q66) rfl rfl (by decide +kernel) hR (n := 1) rfl hsz hroom hdg ⟨Nat.zero_le _, Nat.zero_le _⟩ (As := [.int x]) rfl (fun r hr => by rw [hr]; exact kk)
theorem yc_printOf {x : Int32} (S : CallFix p m c cc nL s args lw_all RX0) (hK : va_K (dC, dI) qf_cl (qf_tys dA) s) (hP : va_P (dC, dI) qf_cl (qf_w g dA u) H)  (hR : qf_RM R 1 (8 + (2 + 11) + 0)) (hsz : ls.size = nL) (hroom : (rest.map fun v => v.category).sum ≤ 8) (hdg : decode cc pc = .ok (.invokevirtual 41, 3)) (kk : W p l e R s m args below meth c H locs 0 0 Q (F0 m (pc + 3) ls (.int (nI (qf_hash x)) :: rest))) : W p l e R s m args below meth c H locs 0 0 Q (F0 m pc ls (.int x :: .ref (g 0) :: rest)) :=
  qf_callR S hK hP (met_printOf l dC dI dA g u x) (lw_V q71 q72 q73 q21 q74) rfl rfl (by decide +kernel) hR (n := 1) rfl hsz hroom hdg ⟨Nat.zero_le _, Nat.zero_le _⟩ (As := [.int x]) rfl (fun r hr => by rw [hr]; exact kk)
theorem yc_base  (S : CallFix p m c cc nL s args lw_all RX0) (hK : va_K (dC, dI) qf_cl (qf_tys dA) s) (hP : va_P (dC, dI) qf_cl (qf_w g dA u) H)  (hR : qf_RM R 1 (8 + (2 + 11) + 0)) (hsz : ls.size = nL) (hroom : (rest.map fun v => v.category).sum ≤ 8) (hdg : decode cc pc = .ok (.invokevirtual 70, 3)) (kk : W p l e R s m args below meth c H locs 0 0 Q (F0 m (pc + 3) ls (.int (nI (64 * f)) :: rest))) : W p l e R s m args below meth c H locs 0 0 Q (F0 m pc ls (.int (nI f) :: .ref (g 0) :: rest)) :=
  qf_callR S hK hP (met_base l dC dI dA g u f) (lw_V q80 q82 qs3 q21 q83) rfl rfl (by decide +kernel) hR (n := 1) rfl hsz hroom hdg ⟨Nat.zero_le _, Nat.zero_le _⟩ (As := [.int (nI f)]) rfl (fun r hr => by rw [hr]; exact kk)
theorem yc_slots {b : Nat} (S : CallFix p m c cc nL s args lw_all RX0) (hK : va_K (dC, dI) qf_cl (qf_tys dA) s) (hP : va_P (dC, dI) qf_cl (qf_w g dA (va_up F f G, rc, rd)) H) (hf : f < 2) (hGb : qf_B G = b) (hB : qf_bk b) (hR : qf_RM R 1 (8 + (2 + 11) + 0)) (hsz : ls.size = nL) (hroom : (rest.map fun v => v.category).sum ≤ 8) (hdg : decode cc pc = .ok (.invokevirtual 37, 3)) (kk : W p l e R s m args below meth c H locs 0 0 Q (F0 m (pc + 3) ls (.int (nI (2 ^ b)) :: rest))) : W p l e R s m args below meth c H locs 0 0 Q (F0 m pc ls (.int (nI f) :: .ref (g 0) :: rest)) :=
  qf_callR S hK hP (met_slots l dC dI dA g F f G rc rd b hf hGb hB) (lw_V q67 q69 qs1 q21 q70) rfl rfl (by decide +kernel) hR (n := 1) rfl hsz hroom hdg ⟨Nat.zero_le _, Nat.zero_le _⟩ (As := [.int (nI f)]) rfl (fun r hr => by rw [hr]; exact kk)
end QFL1
set_option maxHeartbeats 4000000 in
set_option maxRecDepth 100000 in
/-- after -/
theorem met_after (l : Launch) (dC : Nat → ClassId) (dI : Nat → Nat → Nat) (dA : Nat → ClassId) (g : Nat → Nat) (F : Nat → qf_FS) (f : Nat) (G : qf_FS) (rc : Nat) (rd : Nat → Nat) (b x : Nat) (hf : f < 2) (hGb : qf_B G = b) (hB : qf_bk b) (hx : x < 64) : Met l yX0_after (ws_ yX0_after cX0_after 3 (some .int)) ({ frames := 1, cells := 0, slots := 0, locals := 21 }) (qf_Pc g dA dC dI (va_up F f G, rc, rd) [.int (nI f), .int (nI x)]) (vp_Si (fun r => r = nI ((x + 1) % 2 ^ b))) 0 0 (fun _ => False) := by
  refine qf_met (by decide) rfl (Nat.le_of_ble_eq_true rfl) ?_
  intro p e s m below meth c ls S hr hlocks hP hK hl
  have hR : qf_RM ({ frames := 1, cells := 0, slots := 0, locals := 21 }) 1 21 := ⟨Nat.le_refl _, Nat.le_refl _⟩
  have hl : lv_has ls 3 [(0, .ref (g 0)), (1, .int (nI f)), (2, .int (nI x))] := hl
  refine lv_iload_n S.1 S.2.1 dX0_after_0 rfl (lv_at hl 2 rfl) ?_
  refine lv_iconst (v := nI 1) S.1 S.2.1 dX0_after_1 (by decide) ?_
  refine lv_iadd S.1 S.2.1 dX0_after_2 ?_
  refine qf_top (nI_add _ _) ?_
  refine lv_aload_n S.1 S.2.1 dX0_after_3 rfl (lv_at hl 0 rfl) ?_
  refine lv_iload_n S.1 S.2.1 dX0_after_4 rfl (lv_at hl 1 rfl) ?_
  refine yc_slots S hK hP hf hGb hB (hR.le (by decide) (by decide)) hl.1 (Nat.le_of_ble_eq_true rfl) dX0_after_5 ?_
  refine lv_iconst (v := nI 1) S.1 S.2.1 dX0_after_8 (by decide) ?_
  refine lv_isub S.1 S.2.1 dX0_after_9 ?_
  refine lv_iand S.1 S.2.1 dX0_after_10 ?_
  refine qf_top (qn_after hB hx) ?_
  exact W.iret S.1 S.2.1 hr (fun t ht hW => ⟨_, rfl, rfl, ht⟩) (fun _ h => by cases h) dX0_after_11
set_option maxHeartbeats 4000000 in
set_option maxRecDepth 100000 in
/-- beforeSlot -/
theorem met_beforeSlot (l : Launch) (dC : Nat → ClassId) (dI : Nat → Nat → Nat) (dA : Nat → ClassId) (g : Nat → Nat) (F : Nat → qf_FS) (f : Nat) (G : qf_FS) (rc : Nat) (rd : Nat → Nat) (b x : Nat) (hf : f < 2) (hGb : qf_B G = b) (hB : qf_bk b) (hx : x < 64) : Met l yX0_beforeSlot (ws_ yX0_beforeSlot cX0_beforeSlot 3 (some .int)) ({ frames := 1, cells := 0, slots := 0, locals := 21 }) (qf_Pc g dA dC dI (va_up F f G, rc, rd) [.int (nI f), .int (nI x)]) (vp_Si (fun r => r = nI ((x + 2 ^ b - 1) % 2 ^ b))) 0 0 (fun _ => False) := by
  refine qf_met (by decide) rfl (Nat.le_of_ble_eq_true rfl) ?_
  intro p e s m below meth c ls S hr hlocks hP hK hl
  have hR : qf_RM ({ frames := 1, cells := 0, slots := 0, locals := 21 }) 1 21 := ⟨Nat.le_refl _, Nat.le_refl _⟩
  have hl : lv_has ls 3 [(0, .ref (g 0)), (1, .int (nI f)), (2, .int (nI x))] := hl
  refine lv_iload_n S.1 S.2.1 dX0_beforeSlot_0 rfl (lv_at hl 2 rfl) ?_
  refine lv_iconst (v := nI 1) S.1 S.2.1 dX0_beforeSlot_1 (by decide) ?_
  refine lv_isub S.1 S.2.1 dX0_beforeSlot_2 ?_
  refine lv_aload_n S.1 S.2.1 dX0_beforeSlot_3 rfl (lv_at hl 0 rfl) ?_
  refine lv_iload_n S.1 S.2.1 dX0_beforeSlot_4 rfl (lv_at hl 1 rfl) ?_
  refine yc_slots S hK hP hf hGb hB (hR.le (by decide) (by decide)) hl.1 (Nat.le_of_ble_eq_true rfl) dX0_beforeSlot_5 ?_
  refine lv_iconst (v := nI 1) S.1 S.2.1 dX0_beforeSlot_8 (by decide) ?_
  refine lv_isub S.1 S.2.1 dX0_beforeSlot_9 ?_
  refine lv_iand S.1 S.2.1 dX0_beforeSlot_10 ?_
  refine qf_top (qn_before hB hx) ?_
  exact W.iret S.1 S.2.1 hr (fun t ht hW => ⟨_, rfl, rfl, ht⟩) (fun _ h => by cases h) dX0_beforeSlot_11
set_option maxHeartbeats 4000000 in
set_option maxRecDepth 100000 in
/-- holds -/
theorem met_holds (l : Launch) (dC : Nat → ClassId) (dI : Nat → Nat → Nat) (dA : Nat → ClassId) (g : Nat → Nat) (F : Nat → qf_FS) (f : Nat) (G : qf_FS) (rc : Nat) (rd : Nat → Nat) (x : Nat) (hf : f < 2) (hx : x < 64) : Met l yX0_holds (ws_ yX0_holds cX0_holds 4 (some .boolean)) ({ frames := 1, cells := 0, slots := 0, locals := 21 }) (qf_Pc g dA dC dI (va_up F f G, rc, rd) [.int (nI f), .int (nI x)]) (vp_Si (fun r => r = qf_b (qf_U G x))) 0 0 (fun _ => False) := by
  refine qf_met (by decide) rfl (Nat.le_of_ble_eq_true rfl) ?_
  intro p e s m below meth c ls S hr hlocks hP hK hl
  have hR : qf_RM ({ frames := 1, cells := 0, slots := 0, locals := 21 }) 1 21 := ⟨Nat.le_refl _, Nat.le_refl _⟩
  have hl : lv_has ls 4 [(0, .ref (g 0)), (1, .int (nI f)), (2, .int (nI x))] := hl
  refine lv_aload_n S.1 S.2.1 dX0_holds_0 rfl (lv_at hl 0 rfl) ?_
  refine lv_iload_n S.1 S.2.1 dX0_holds_1 rfl (lv_at hl 1 rfl) ?_
  refine yc_base S hK hP (hR.le (by decide) (by decide)) hl.1 (Nat.le_of_ble_eq_true rfl) dX0_holds_2 ?_
  refine lv_iload_n S.1 S.2.1 dX0_holds_5 rfl (lv_at hl 2 rfl) ?_
  refine lv_iadd S.1 S.2.1 dX0_holds_6 ?_
  refine qf_top (nI_add _ _) ?_
  refine lv_istore_n (lv' := [(3, .int (nI (64 * f + x))), (0, .ref (g 0)), (1, .int (nI f)), (2, .int (nI x))]) S.1 S.2.1 dX0_holds_7 rfl hl (by decide) rfl (fun ls hl => ?_)
  refine lv_aload_n S.1 S.2.1 dX0_holds_8 rfl (lv_at hl 1 rfl) ?_
  refine xg_N S hK hP dX0_holds_9 ?_
  refine lv_iload_n S.1 S.2.1 dX0_holds_12 rfl (lv_at hl 0 rfl) ?_
  refine yl_N S hK hP rfl hf hx dX0_holds_13 ?_
  refine qf_ifne (tgt := 35) S.1 S.2.1 dX0_holds_14 (by decide) (fun h1 => ?_) (fun h1 => ?_)
  · refine lv_iconst (v := qf_b true) S.1 S.2.1 dX0_holds_35 (by decide) ?_
    refine lv_goto (tgt := 40) S.1 S.2.1 dX0_holds_36 (by decide) ?_
    exact W.zret S.1 S.2.1 hr rfl (fun t ht hW => ⟨_, rfl, by unfold qf_U; rw [h1]; rfl, ht⟩) (fun _ h => by cases h) dX0_holds_40
  · refine lv_aload_n S.1 S.2.1 dX0_holds_17 rfl (lv_at hl 1 rfl) ?_
    refine xg_O S hK hP dX0_holds_18 ?_
    refine lv_iload_n S.1 S.2.1 dX0_holds_21 rfl (lv_at hl 0 rfl) ?_
    refine yl_O S hK hP rfl hf hx dX0_holds_22 ?_
    refine qf_ifne (tgt := 35) S.1 S.2.1 dX0_holds_23 (by decide) (fun h2 => ?_) (fun h2 => ?_)
    · refine lv_iconst (v := qf_b true) S.1 S.2.1 dX0_holds_35 (by decide) ?_
      refine lv_goto (tgt := 40) S.1 S.2.1 dX0_holds_36 (by decide) ?_
      exact W.zret S.1 S.2.1 hr rfl (fun t ht hW => ⟨_, rfl, by unfold qf_U; rw [h1, h2]; rfl, ht⟩) (fun _ h => by cases h) dX0_holds_40
    · refine lv_aload_n S.1 S.2.1 dX0_holds_26 rfl (lv_at hl 1 rfl) ?_
      refine xg_P S hK hP dX0_holds_27 ?_
      refine lv_iload_n S.1 S.2.1 dX0_holds_30 rfl (lv_at hl 0 rfl) ?_
      refine yl_P S hK hP rfl hf hx dX0_holds_31 ?_
      refine qf_ifeq (tgt := 39) S.1 S.2.1 dX0_holds_32 (by decide) (fun h3 => ?_) (fun h3 => ?_)
      · refine lv_iconst (v := qf_b false) S.1 S.2.1 dX0_holds_39 (by decide) ?_
        exact W.zret S.1 S.2.1 hr rfl (fun t ht hW => ⟨_, rfl, by unfold qf_U; rw [h1, h2, h3]; rfl, ht⟩) (fun _ h => by cases h) dX0_holds_40
      · refine lv_iconst (v := qf_b true) S.1 S.2.1 dX0_holds_35 (by decide) ?_
        refine lv_goto (tgt := 40) S.1 S.2.1 dX0_holds_36 (by decide) ?_
        exact W.zret S.1 S.2.1 hr rfl (fun t ht hW => ⟨_, rfl, by unfold qf_U; rw [h1, h2, h3]; rfl, ht⟩) (fun _ h => by cases h) dX0_holds_40
section QFL2
variable {p : Program} {l : Launch} {e : Env} {R : Room} {s : State} {m : MethodId} {args : Array Value} {below : List Frame} {meth : Method} {c : Code} {H H0 : Heap} {locs : List Loc} {cells slots : Nat} {Q : State → Prop} {cc : ByteArray} {pc nL : Nat} {ls : Array Slot} {rest : List Value} {g : Nat → Nat} {dC : Nat → ClassId} {dI : Nat → Nat → Nat} {dA : Nat → ClassId} {F : Nat → qf_FS} {f : Nat} {G : qf_FS} {rc : Nat} {rd : Nat → Nat} {u : qf_QS}
theorem yc_holds {x : Nat} (S : CallFix p m c cc nL s args lw_all RX0) (hK : va_K (dC, dI) qf_cl (qf_tys dA) s) (hP : va_P (dC, dI) qf_cl (qf_w g dA (va_up F f G, rc, rd)) H) (hf : f < 2) (hx : x < 64) (hR : qf_RM R 2 (8 + (4 + 11) + 21)) (hsz : ls.size = nL) (hroom : (rest.map fun v => v.category).sum ≤ 8) (hdg : decode cc pc = .ok (.invokevirtual 73, 3)) (kk : W p l e R s m args below meth c H locs 0 0 Q (F0 m (pc + 3) ls (.int (qf_b (qf_U G x)) :: rest))) : W p l e R s m args below meth c H locs 0 0 Q (F0 m pc ls (.int (nI x) :: .int (nI f) :: .ref (g 0) :: rest)) :=
  qf_callR S hK hP (met_holds l dC dI dA g F f G rc rd x hf hx) (lw_V q96 q98 qs7 q21 q99) rfl rfl (by decide +kernel) hR (n := 2) rfl hsz hroom hdg ⟨Nat.zero_le _, Nat.zero_le _⟩ (As := [.int (nI f), .int (nI x)]) rfl (fun r hr => by rw [hr]; exact kk)
theorem qf_bef {b x : Nat} (hB : qf_bk b) : ((x + 1) % 2 ^ b + 2 ^ b - 1) % 2 ^ b = x % 2 ^ b := by
  have hp : 0 < 2 ^ b := Nat.lt_of_lt_of_le (by decide) (qf_bk_64 hB).1
  have e := Nat.div_add_mod (x + 1) (2 ^ b)
  have k : ((x + 1) % 2 ^ b + 2 ^ b - 1) + 2 ^ b * ((x + 1) / 2 ^ b) = x + 2 ^ b := by omega
  have a : (((x + 1) % 2 ^ b + 2 ^ b - 1) + 2 ^ b * ((x + 1) / 2 ^ b)) % 2 ^ b = ((x + 1) % 2 ^ b + 2 ^ b - 1) % 2 ^ b := Nat.add_mul_mod_self_left _ _ _
  rw [← a, k, Nat.add_mod_right]
theorem yc_after {b x : Nat} (S : CallFix p m c cc nL s args lw_all RX0) (hK : va_K (dC, dI) qf_cl (qf_tys dA) s) (hP : va_P (dC, dI) qf_cl (qf_w g dA (va_up F f G, rc, rd)) H) (hf : f < 2) (hGb : qf_B G = b) (hB : qf_bk b) (hR : qf_RM R 2 (8 + (3 + 11) + 21)) (hsz : ls.size = nL) (hroom : (rest.map fun v => v.category).sum ≤ 8) (hdg : decode cc pc = .ok (.invokevirtual 83, 3)) (kk : W p l e R s m args below meth c H locs 0 0 Q (F0 m (pc + 3) ls (.int (nI ((x + 1) % 2 ^ b)) :: rest))) : W p l e R s m args below meth c H locs 0 0 Q (F0 m pc ls (.int (nI (x % 2 ^ b)) :: .int (nI f) :: .ref (g 0) :: rest)) :=
  qf_callR S hK hP (met_after l dC dI dA g F f G rc rd b (x % 2 ^ b) hf hGb hB (qf_bk_s hB _)) (lw_V q108 q110 qs10 q21 q111) rfl rfl (by decide +kernel) hR (n := 2) rfl hsz hroom hdg ⟨Nat.zero_le _, Nat.zero_le _⟩ (As := [.int (nI f), .int (nI (x % 2 ^ b))]) rfl (fun r hr => by rw [hr, Nat.mod_add_mod]; exact kk)
theorem yc_before {b x : Nat} (S : CallFix p m c cc nL s args lw_all RX0) (hK : va_K (dC, dI) qf_cl (qf_tys dA) s) (hP : va_P (dC, dI) qf_cl (qf_w g dA (va_up F f G, rc, rd)) H) (hf : f < 2) (hGb : qf_B G = b) (hB : qf_bk b) (hR : qf_RM R 2 (8 + (3 + 11) + 21)) (hsz : ls.size = nL) (hroom : (rest.map fun v => v.category).sum ≤ 8) (hdg : decode cc pc = .ok (.invokevirtual 80, 3)) (kk : W p l e R s m args below meth c H locs 0 0 Q (F0 m (pc + 3) ls (.int (nI (x % 2 ^ b)) :: rest))) : W p l e R s m args below meth c H locs 0 0 Q (F0 m pc ls (.int (nI ((x + 1) % 2 ^ b)) :: .int (nI f) :: .ref (g 0) :: rest)) :=
  qf_callR S hK hP (met_beforeSlot l dC dI dA g F f G rc rd b ((x + 1) % 2 ^ b) hf hGb hB (qf_bk_s hB _)) (lw_V q104 q106 qs9 q21 q107) rfl rfl (by decide +kernel) hR (n := 2) rfl hsz hroom hdg ⟨Nat.zero_le _, Nat.zero_le _⟩ (As := [.int (nI f), .int (nI ((x + 1) % 2 ^ b))]) rfl (fun r hr => by rw [hr, qf_bef hB]; exact kk)
end QFL2
set_option maxHeartbeats 4000000 in
set_option maxRecDepth 100000 in
/-- isFree -/
theorem met_isFree (l : Launch) (dC : Nat → ClassId) (dI : Nat → Nat → Nat) (dA : Nat → ClassId) (g : Nat → Nat) (F : Nat → qf_FS) (f : Nat) (G : qf_FS) (rc : Nat) (rd : Nat → Nat) (x : Nat) (hf : f < 2) (hx : x < 64) : Met l yX0_isFree (ws_ yX0_isFree cX0_isFree 3 (some .boolean)) ({ frames := 2, cells := 0, slots := 0, locals := 44 }) (qf_Pc g dA dC dI (va_up F f G, rc, rd) [.int (nI f), .int (nI x)]) (vp_Si (fun r => r = qf_b (!(qf_U G x)))) 0 0 (fun _ => False) := by
  refine qf_met (by decide) rfl (Nat.le_of_ble_eq_true rfl) ?_
  intro p e s m below meth c ls S hr hlocks hP hK hl
  have hR : qf_RM ({ frames := 2, cells := 0, slots := 0, locals := 44 }) 2 44 := ⟨Nat.le_refl _, Nat.le_refl _⟩
  have hl : lv_has ls 3 [(0, .ref (g 0)), (1, .int (nI f)), (2, .int (nI x))] := hl
  refine lv_aload_n S.1 S.2.1 dX0_isFree_0 rfl (lv_at hl 0 rfl) ?_
  refine lv_iload_n S.1 S.2.1 dX0_isFree_1 rfl (lv_at hl 1 rfl) ?_
  refine lv_iload_n S.1 S.2.1 dX0_isFree_2 rfl (lv_at hl 2 rfl) ?_
  refine yc_holds S hK hP hf hx (hR.le (by decide) (by decide)) hl.1 (Nat.le_of_ble_eq_true rfl) dX0_isFree_3 ?_
  refine qf_ifne (tgt := 13) S.1 S.2.1 dX0_isFree_6 (by decide) (fun h1 => ?_) (fun h1 => ?_)
  · refine lv_iconst (v := qf_b false) S.1 S.2.1 dX0_isFree_13 (by decide) ?_
    exact W.zret S.1 S.2.1 hr rfl (fun t ht hW => ⟨_, rfl, by rw [h1]; rfl, ht⟩) (fun _ h => by cases h) dX0_isFree_14
  · refine lv_iconst (v := qf_b true) S.1 S.2.1 dX0_isFree_9 (by decide) ?_
    refine lv_goto (tgt := 14) S.1 S.2.1 dX0_isFree_10 (by decide) ?_
    exact W.zret S.1 S.2.1 hr rfl (fun t ht hW => ⟨_, rfl, by rw [h1]; rfl, ht⟩) (fun _ h => by cases h) dX0_isFree_14
set_option maxHeartbeats 4000000 in
set_option maxRecDepth 100000 in
/-- slotOf -/
theorem met_slotOf (l : Launch) (dC : Nat → ClassId) (dI : Nat → Nat → Nat) (dA : Nat → ClassId) (g : Nat → Nat) (F : Nat → qf_FS) (f : Nat) (G : qf_FS) (rc : Nat) (rd : Nat → Nat) (b y : Nat) (hf : f < 2) (hGb : qf_B G = b) (hB : qf_bk b) (hp : y < 256) : Met l yX0_slotOf (ws_ yX0_slotOf cX0_slotOf 3 (some .int)) ({ frames := 0, cells := 0, slots := 0, locals := 0 }) (qf_Pc g dA dC dI (va_up F f G, rc, rd) [.int (nI f), .int (nI y)]) (vp_Si (fun r => r = nI (y / 2 ^ (8 - b)))) 0 0 (fun _ => False) := by
  refine qf_met (by decide) rfl (Nat.le_of_ble_eq_true rfl) ?_
  intro p e s m below meth c ls S hr hlocks hP hK hl
  have hR : qf_RM ({ frames := 0, cells := 0, slots := 0, locals := 0 }) 0 0 := ⟨Nat.le_refl _, Nat.le_refl _⟩
  have hl : lv_has ls 3 [(0, .ref (g 0)), (1, .int (nI f)), (2, .int (nI y))] := hl
  refine lv_iload_n S.1 S.2.1 dX0_slotOf_0 rfl (lv_at hl 2 rfl) ?_
  refine lv_bipush (v := nI 8) S.1 S.2.1 dX0_slotOf_1 (by decide) ?_
  refine lv_aload_n S.1 S.2.1 dX0_slotOf_3 rfl (lv_at hl 0 rfl) ?_
  refine xg_B S hK hP dX0_slotOf_4 ?_
  refine lv_iload_n S.1 S.2.1 dX0_slotOf_7 rfl (lv_at hl 1 rfl) ?_
  refine yl_B S hK hP hf dX0_slotOf_8 ?_
  refine qf_top (congrArg nI hGb) ?_
  refine lv_isub S.1 S.2.1 dX0_slotOf_9 ?_
  refine lv_ishr S.1 S.2.1 dX0_slotOf_10 ?_
  refine qf_top (qn_slotOf hB hp) ?_
  exact W.iret S.1 S.2.1 hr (fun t ht hW => ⟨_, rfl, rfl, ht⟩) (fun _ h => by cases h) dX0_slotOf_11
set_option maxHeartbeats 4000000 in
set_option maxRecDepth 100000 in
/-- lowerOf -/
theorem met_lowerOf (l : Launch) (dC : Nat → ClassId) (dI : Nat → Nat → Nat) (dA : Nat → ClassId) (g : Nat → Nat) (F : Nat → qf_FS) (f : Nat) (G : qf_FS) (rc : Nat) (rd : Nat → Nat) (b y : Nat) (hf : f < 2) (hGb : qf_B G = b) (hB : qf_bk b) (hp : y < 256) : Met l yX0_lowerOf (ws_ yX0_lowerOf cX0_lowerOf 3 (some .int)) ({ frames := 0, cells := 0, slots := 0, locals := 0 }) (qf_Pc g dA dC dI (va_up F f G, rc, rd) [.int (nI f), .int (nI y)]) (vp_Si (fun r => r = nI (y % 2 ^ (8 - b)))) 0 0 (fun _ => False) := by
  refine qf_met (by decide) rfl (Nat.le_of_ble_eq_true rfl) ?_
  intro p e s m below meth c ls S hr hlocks hP hK hl
  have hR : qf_RM ({ frames := 0, cells := 0, slots := 0, locals := 0 }) 0 0 := ⟨Nat.le_refl _, Nat.le_refl _⟩
  have hl : lv_has ls 3 [(0, .ref (g 0)), (1, .int (nI f)), (2, .int (nI y))] := hl
  refine lv_iload_n S.1 S.2.1 dX0_lowerOf_0 rfl (lv_at hl 2 rfl) ?_
  refine lv_iconst (v := nI 1) S.1 S.2.1 dX0_lowerOf_1 (by decide) ?_
  refine lv_bipush (v := nI 8) S.1 S.2.1 dX0_lowerOf_2 (by decide) ?_
  refine lv_aload_n S.1 S.2.1 dX0_lowerOf_4 rfl (lv_at hl 0 rfl) ?_
  refine xg_B S hK hP dX0_lowerOf_5 ?_
  refine lv_iload_n S.1 S.2.1 dX0_lowerOf_8 rfl (lv_at hl 1 rfl) ?_
  refine yl_B S hK hP hf dX0_lowerOf_9 ?_
  refine qf_top (congrArg nI hGb) ?_
  refine lv_isub S.1 S.2.1 dX0_lowerOf_10 ?_
  refine lv_ishl S.1 S.2.1 dX0_lowerOf_11 ?_
  refine lv_iconst (v := nI 1) S.1 S.2.1 dX0_lowerOf_12 (by decide) ?_
  refine lv_isub S.1 S.2.1 dX0_lowerOf_13 ?_
  refine lv_iand S.1 S.2.1 dX0_lowerOf_14 ?_
  refine qf_top (qn_lowerOf hB hp) ?_
  exact W.iret S.1 S.2.1 hr (fun t ht hW => ⟨_, rfl, rfl, ht⟩) (fun _ h => by cases h) dX0_lowerOf_15
section QFL3
variable {p : Program} {l : Launch} {e : Env} {R : Room} {s : State} {m : MethodId} {args : Array Value} {below : List Frame} {meth : Method} {c : Code} {H H0 : Heap} {locs : List Loc} {cells slots : Nat} {Q : State → Prop} {cc : ByteArray} {pc nL : Nat} {ls : Array Slot} {rest : List Value} {g : Nat → Nat} {dC : Nat → ClassId} {dI : Nat → Nat → Nat} {dA : Nat → ClassId} {F : Nat → qf_FS} {f : Nat} {G : qf_FS} {rc : Nat} {rd : Nat → Nat} {u : qf_QS}
theorem yc_isFree {x : Nat} (S : CallFix p m c cc nL s args lw_all RX0) (hK : va_K (dC, dI) qf_cl (qf_tys dA) s) (hP : va_P (dC, dI) qf_cl (qf_w g dA (va_up F f G, rc, rd)) H) (hf : f < 2) (hx : x < 64) (hR : qf_RM R 3 (8 + (3 + 11) + 44)) (hsz : ls.size = nL) (hroom : (rest.map fun v => v.category).sum ≤ 8) (hdg : decode cc pc = .ok (.invokevirtual 95, 3)) (kk : W p l e R s m args below meth c H locs 0 0 Q (F0 m (pc + 3) ls (.int (qf_b (!(qf_U G x))) :: rest))) : W p l e R s m args below meth c H locs 0 0 Q (F0 m pc ls (.int (nI x) :: .int (nI f) :: .ref (g 0) :: rest)) :=
  qf_callR S hK hP (met_isFree l dC dI dA g F f G rc rd x hf hx) (lw_V q92 q94 qs6 q21 q95) rfl rfl (by decide +kernel) hR (n := 2) rfl hsz hroom hdg ⟨Nat.zero_le _, Nat.zero_le _⟩ (As := [.int (nI f), .int (nI x)]) rfl (fun r hr => by rw [hr]; exact kk)
theorem yc_slotOf {b y : Nat} (S : CallFix p m c cc nL s args lw_all RX0) (hK : va_K (dC, dI) qf_cl (qf_tys dA) s) (hP : va_P (dC, dI) qf_cl (qf_w g dA (va_up F f G, rc, rd)) H) (hf : f < 2) (hGb : qf_B G = b) (hB : qf_bk b) (hp : y < 256) (hR : qf_RM R 1 (8 + (3 + 11) + 0)) (hsz : ls.size = nL) (hroom : (rest.map fun v => v.category).sum ≤ 8) (hdg : decode cc pc = .ok (.invokevirtual 86, 3)) (kk : W p l e R s m args below meth c H locs 0 0 Q (F0 m (pc + 3) ls (.int (nI (y / 2 ^ (8 - b))) :: rest))) : W p l e R s m args below meth c H locs 0 0 Q (F0 m pc ls (.int (nI y) :: .int (nI f) :: .ref (g 0) :: rest)) :=
  qf_callR S hK hP (met_slotOf l dC dI dA g F f G rc rd b y hf hGb hB hp) (lw_V q84 q86 qs4 q21 q87) rfl rfl (by decide +kernel) hR (n := 2) rfl hsz hroom hdg ⟨Nat.zero_le _, Nat.zero_le _⟩ (As := [.int (nI f), .int (nI y)]) rfl (fun r hr => by rw [hr]; exact kk)
theorem yc_lowerOf {b y : Nat} (S : CallFix p m c cc nL s args lw_all RX0) (hK : va_K (dC, dI) qf_cl (qf_tys dA) s) (hP : va_P (dC, dI) qf_cl (qf_w g dA (va_up F f G, rc, rd)) H) (hf : f < 2) (hGb : qf_B G = b) (hB : qf_bk b) (hp : y < 256) (hR : qf_RM R 1 (8 + (3 + 11) + 0)) (hsz : ls.size = nL) (hroom : (rest.map fun v => v.category).sum ≤ 8) (hdg : decode cc pc = .ok (.invokevirtual 89, 3)) (kk : W p l e R s m args below meth c H locs 0 0 Q (F0 m (pc + 3) ls (.int (nI (y % 2 ^ (8 - b))) :: rest))) : W p l e R s m args below meth c H locs 0 0 Q (F0 m pc ls (.int (nI y) :: .int (nI f) :: .ref (g 0) :: rest)) :=
  qf_callR S hK hP (met_lowerOf l dC dI dA g F f G rc rd b y hf hGb hB hp) (lw_V q88 q90 qs5 q21 q91) rfl rfl (by decide +kernel) hR (n := 2) rfl hsz hroom hdg ⟨Nat.zero_le _, Nat.zero_le _⟩ (As := [.int (nI f), .int (nI y)]) rfl (fun r hr => by rw [hr]; exact kk)
end QFL3
end
section
/-! runStart -/
section QRS
variable {p : Program} {l : Launch} {e : Env} {R : Room} {s : State} {m : MethodId} {args : Array Value} {below : List Frame} {meth : Method} {c : Code} {H H0 : Heap} {locs : List Loc} {cells slots : Nat} {Q : State → Prop} {cc : ByteArray} {pc nL : Nat} {ls : Array Slot} {rest : List Value} {g : Nat → Nat} {dC : Nat → ClassId} {dI : Nat → Nat → Nat} {dA : Nat → ClassId} {F : Nat → qf_FS} {f b : Nat} {G : qf_FS} {rc : Nat} {rd : Nat → Nat} {u : qf_QS}
set_option maxHeartbeats 4000000 in
set_option maxRecDepth 100000 in
theorem rs_loop1 (S : CallFix p m c cX0_runStart 6 s args lw_all RX0) (hK : va_K (dC, dI) qf_cl (qf_tys dA) s) (hf : f < 2) (hB : qf_bk b) (hR : qf_RM R 2 43) (hP : va_P (dC, dI) qf_cl (qf_w g dA (va_up F f G, rc, rd)) H) (hGb : qf_B G = b) {q2 : Int32} {y : Nat} (hy : qf_P G (y % 2 ^ b) = false) (kk : ∀ ls, lv_has ls 6 [(0, .ref (g 0)), (1, .int (nI f)), (2, .int q2), (3, .int (nI (64 * f))), (4, .int (nI (y % 2 ^ b)))] → W p l e R s m args below meth c H locs 0 0 Q (F0 m 33 ls [])) :
    ∀ (n x : Nat), x = y + n → (∀ t, y < t → t ≤ x → qf_P G (t % 2 ^ b) = true) → ∀ ls, lv_has ls 6 [(0, .ref (g 0)), (1, .int (nI f)), (2, .int q2), (3, .int (nI (64 * f))), (4, .int (nI (x % 2 ^ b)))] → W p l e R s m args below meth c H locs 0 0 Q (F0 m 9 ls []) := by
  intro n
  induction n using Nat.strongRecOn with
  | ind n ih =>
    intro x hx hal ls hl
    refine lv_aload_n S.1 S.2.1 dX0_runStart_9 rfl (lv_at hl 0 rfl) ?_
    refine xg_P S hK hP dX0_runStart_10 ?_
    refine lv_iload_n S.1 S.2.1 dX0_runStart_13 rfl (lv_at hl 3 rfl) ?_
    refine lv_iload S.1 S.2.1 dX0_runStart_14 (lv_at hl 4 rfl) ?_
    refine lv_iadd S.1 S.2.1 dX0_runStart_16 ?_
    refine qf_top (nI_add _ _) ?_
    refine yl_P S hK hP rfl hf (qf_bk_s hB _) dX0_runStart_17 ?_
    refine qf_ifeq (tgt := 33) S.1 S.2.1 dX0_runStart_18 (by decide) (fun h1 => ?_) (fun h1 => ?_)
    · have e1 : x = y := by
        rcases Nat.eq_zero_or_pos n with q | q
        · omega
        · have := hal x (by omega) (Nat.le_refl _)
          rw [h1] at this; cases this
      rw [e1] at hl
      exact kk ls hl
    · have hn : n ≠ 0 := fun q => by
        have e1 : x = y := by omega
        rw [e1, hy] at h1; cases h1
      obtain ⟨x, rfl⟩ : ∃ x1, x = x1 + 1 := ⟨x - 1, by omega⟩
      refine lv_aload_n S.1 S.2.1 dX0_runStart_21 rfl (lv_at hl 0 rfl) ?_
      refine lv_iload_n S.1 S.2.1 dX0_runStart_22 rfl (lv_at hl 1 rfl) ?_
      refine lv_iload S.1 S.2.1 dX0_runStart_23 (lv_at hl 4 rfl) ?_
      refine yc_before (x := x) S hK hP hf hGb hB (hR.le (by decide) (by decide)) hl.1 (Nat.le_of_ble_eq_true rfl) dX0_runStart_25 ?_
      refine lv_istore (lv' := [(4, .int (nI (x % 2 ^ b))), (0, .ref (g 0)), (1, .int (nI f)), (2, .int q2), (3, .int (nI (64 * f)))]) S.1 S.2.1 dX0_runStart_28 hl (by decide) rfl (fun ls hl => ?_)
      refine lv_goto (tgt := 9) S.1 S.2.1 dX0_runStart_30 (by decide) ?_
      exact ih (n - 1) (by omega) x (by omega) (fun t t1 t2 => hal t t1 (by omega)) ls (lv_sub hl [1, 2, 3, 4, 0] rfl)
set_option maxHeartbeats 4000000 in
set_option maxRecDepth 100000 in
theorem rs_loop2 (S : CallFix p m c cX0_runStart 6 s args lw_all RX0) (hK : va_K (dC, dI) qf_cl (qf_tys dA) s) (hf : f < 2) (hB : qf_bk b) (hR : qf_RM R 2 43) (hP : va_P (dC, dI) qf_cl (qf_w g dA (va_up F f G, rc, rd)) H) (hGb : qf_B G = b) {q2 q4 : Int32} {y : Nat} (hy : qf_O G (y % 2 ^ b) = false) (kk : ∀ ls, lv_has ls 6 [(0, .ref (g 0)), (1, .int (nI f)), (2, .int q2), (3, .int (nI (64 * f))), (4, .int q4), (5, .int (nI (y % 2 ^ b)))] → W p l e R s m args below meth c H locs 0 0 Q (F0 m 76 ls [])) :
    ∀ (n x : Nat), y = x + n → (∀ t, x ≤ t → t < y → qf_O G (t % 2 ^ b) = true) → ∀ ls, lv_has ls 6 [(0, .ref (g 0)), (1, .int (nI f)), (2, .int q2), (3, .int (nI (64 * f))), (4, .int q4), (5, .int (nI (x % 2 ^ b)))] → W p l e R s m args below meth c H locs 0 0 Q (F0 m 52 ls []) := by
  intro n
  induction n using Nat.strongRecOn with
  | ind n ih =>
    intro x hx hal ls hl
    refine lv_aload_n S.1 S.2.1 dX0_runStart_52 rfl (lv_at hl 0 rfl) ?_
    refine xg_O S hK hP dX0_runStart_53 ?_
    refine lv_iload_n S.1 S.2.1 dX0_runStart_56 rfl (lv_at hl 3 rfl) ?_
    refine lv_iload S.1 S.2.1 dX0_runStart_57 (lv_at hl 5 rfl) ?_
    refine lv_iadd S.1 S.2.1 dX0_runStart_59 ?_
    refine qf_top (nI_add _ _) ?_
    refine yl_O S hK hP rfl hf (qf_bk_s hB _) dX0_runStart_60 ?_
    refine qf_ifeq (tgt := 76) S.1 S.2.1 dX0_runStart_61 (by decide) (fun h1 => ?_) (fun h1 => ?_)
    · have e1 : x = y := by
        rcases Nat.eq_zero_or_pos n with q | q
        · omega
        · have := hal x (Nat.le_refl _) (by omega)
          rw [h1] at this; cases this
      rw [e1] at hl
      exact kk ls hl
    · have hn : n ≠ 0 := fun q => by
        have e1 : x = y := by omega
        rw [e1, hy] at h1; cases h1
      refine lv_aload_n S.1 S.2.1 dX0_runStart_64 rfl (lv_at hl 0 rfl) ?_
      refine lv_iload_n S.1 S.2.1 dX0_runStart_65 rfl (lv_at hl 1 rfl) ?_
      refine lv_iload S.1 S.2.1 dX0_runStart_66 (lv_at hl 5 rfl) ?_
      refine yc_after (x := x) S hK hP hf hGb hB (hR.le (by decide) (by decide)) hl.1 (Nat.le_of_ble_eq_true rfl) dX0_runStart_68 ?_
      refine lv_istore (lv' := [(5, .int (nI ((x + 1) % 2 ^ b))), (0, .ref (g 0)), (1, .int (nI f)), (2, .int q2), (3, .int (nI (64 * f))), (4, .int q4)]) S.1 S.2.1 dX0_runStart_71 hl (by decide) rfl (fun ls hl => ?_)
      refine lv_goto (tgt := 52) S.1 S.2.1 dX0_runStart_73 (by decide) ?_
      exact ih (n - 1) (by omega) (x + 1) (by omega) (fun t t1 t2 => hal t (by omega) t2) ls (lv_sub hl [1, 2, 3, 4, 5, 0] rfl)
set_option maxHeartbeats 4000000 in
set_option maxRecDepth 100000 in
theorem rs_loop3 (S : CallFix p m c cX0_runStart 6 s args lw_all RX0) (hK : va_K (dC, dI) qf_cl (qf_tys dA) s) (hf : f < 2) (hB : qf_bk b) (hR : qf_RM R 2 43) (hP : va_P (dC, dI) qf_cl (qf_w g dA (va_up F f G, rc, rd)) H) (hGb : qf_B G = b) {q2 q5 : Int32} {y : Nat} (hy : qf_N G (y % 2 ^ b) = true) (kk : ∀ ls, lv_has ls 6 [(0, .ref (g 0)), (1, .int (nI f)), (2, .int q2), (3, .int (nI (64 * f))), (4, .int (nI (y % 2 ^ b))), (5, .int q5)] → W p l e R s m args below meth c H locs 0 0 Q (F0 m 37 ls [])) :
    ∀ (n x : Nat), y = x + n → (∀ t, x ≤ t → t < y → qf_N G (t % 2 ^ b) = false) → ∀ ls, lv_has ls 6 [(0, .ref (g 0)), (1, .int (nI f)), (2, .int q2), (3, .int (nI (64 * f))), (4, .int (nI (x % 2 ^ b))), (5, .int q5)] → W p l e R s m args below meth c H locs 0 0 Q (F0 m 85 ls []) := by
  intro n
  induction n using Nat.strongRecOn with
  | ind n ih =>
    intro x hx hal ls hl
    refine lv_aload_n S.1 S.2.1 dX0_runStart_85 rfl (lv_at hl 0 rfl) ?_
    refine xg_N S hK hP dX0_runStart_86 ?_
    refine lv_iload_n S.1 S.2.1 dX0_runStart_89 rfl (lv_at hl 3 rfl) ?_
    refine lv_iload S.1 S.2.1 dX0_runStart_90 (lv_at hl 4 rfl) ?_
    refine lv_iadd S.1 S.2.1 dX0_runStart_92 ?_
    refine qf_top (nI_add _ _) ?_
    refine yl_N S hK hP rfl hf (qf_bk_s hB _) dX0_runStart_93 ?_
    refine qf_ifne (tgt := 37) S.1 S.2.1 dX0_runStart_94 (by decide) (fun h1 => ?_) (fun h1 => ?_)
    · have e1 : x = y := by
        rcases Nat.eq_zero_or_pos n with q | q
        · omega
        · have := hal x (Nat.le_refl _) (by omega)
          rw [h1] at this; cases this
      rw [e1] at hl
      exact kk ls hl
    · have hn : n ≠ 0 := fun q => by
        have e1 : x = y := by omega
        rw [e1, hy] at h1; cases h1
      refine lv_aload_n S.1 S.2.1 dX0_runStart_97 rfl (lv_at hl 0 rfl) ?_
      refine lv_iload_n S.1 S.2.1 dX0_runStart_98 rfl (lv_at hl 1 rfl) ?_
      refine lv_iload S.1 S.2.1 dX0_runStart_99 (lv_at hl 4 rfl) ?_
      refine yc_after (x := x) S hK hP hf hGb hB (hR.le (by decide) (by decide)) hl.1 (Nat.le_of_ble_eq_true rfl) dX0_runStart_101 ?_
      refine lv_istore (lv' := [(4, .int (nI ((x + 1) % 2 ^ b))), (0, .ref (g 0)), (1, .int (nI f)), (2, .int q2), (3, .int (nI (64 * f))), (5, .int q5)]) S.1 S.2.1 dX0_runStart_104 hl (by decide) rfl (fun ls hl => ?_)
      refine lv_goto (tgt := 85) S.1 S.2.1 dX0_runStart_106 (by decide) ?_
      exact ih (n - 1) (by omega) (x + 1) (by omega) (fun t t1 t2 => hal t (by omega) t2) ls (lv_sub hl [1, 2, 3, 4, 0, 5] rfl)
set_option maxHeartbeats 4000000 in
set_option maxRecDepth 100000 in
theorem rs_loop (S : CallFix p m c cX0_runStart 6 s args lw_all RX0) (hK : va_K (dC, dI) qf_cl (qf_tys dA) s) (hf : f < 2) (hB : qf_bk b) (hR : qf_RM R 2 43) (hP : va_P (dC, dI) qf_cl (qf_w g dA (va_up F f G, rc, rd)) H) (hGb : qf_B G = b) {Qq Rr : Nat} (kk : ∀ ls, lv_has ls 6 [(0, .ref (g 0)), (1, .int (nI f)), (2, .int (nI (Qq % 2 ^ b))), (3, .int (nI (64 * f))), (4, .int (nI (Qq % 2 ^ b))), (5, .int (nI (Rr % 2 ^ b)))] → W p l e R s m args below meth c H locs 0 0 Q (F0 m 109 ls [])) :
    ∀ (n x y : Nat), qf_RSN (qf_pe (2 ^ b) (qf_N G)) (qf_pe (2 ^ b) (qf_O G)) (2 ^ b) Qq Rr n x y → ∀ ls, lv_has ls 6 [(0, .ref (g 0)), (1, .int (nI f)), (2, .int (nI (Qq % 2 ^ b))), (3, .int (nI (64 * f))), (4, .int (nI (x % 2 ^ b))), (5, .int (nI (y % 2 ^ b)))] → W p l e R s m args below meth c H locs 0 0 Q (F0 m 37 ls []) := by
  intro n
  induction n with
  | zero =>
    intro x y hn ls hl
    refine lv_iload S.1 S.2.1 dX0_runStart_37 (lv_at hl 4 rfl) ?_
    refine lv_iload_n S.1 S.2.1 dX0_runStart_39 rfl (lv_at hl 2 rfl) ?_
    refine qf_icmpeq (tgt := 109) S.1 S.2.1 (Nat.lt_trans (qf_bk_s hB _) (by decide)) (Nat.lt_trans (qf_bk_s hB _) (by decide)) dX0_runStart_40 (by decide) (fun h1 => ?_) (fun h1 => ?_)
    · obtain ⟨e1, e2⟩ := hn
      rw [e1, e2] at hl
      exact kk ls (lv_sub hl [0, 1, 2, 3, 4, 5] rfl)
    · obtain ⟨e1, e2⟩ := hn
      exact absurd (by rw [e1]) h1
  | succ n ih =>
    intro x y hn ls hl
    refine lv_iload S.1 S.2.1 dX0_runStart_37 (lv_at hl 4 rfl) ?_
    refine lv_iload_n S.1 S.2.1 dX0_runStart_39 rfl (lv_at hl 2 rfl) ?_
    refine qf_icmpeq (tgt := 109) S.1 S.2.1 (Nat.lt_trans (qf_bk_s hB _) (by decide)) (Nat.lt_trans (qf_bk_s hB _) (by decide)) dX0_runStart_40 (by decide) (fun h1 => ?_) (fun h1 => ?_)
    · exact absurd h1 hn.1
    · obtain ⟨_, b1, s1, a1, a2, a3, a4, a5, a6, a7⟩ := hn
      refine lv_aload_n S.1 S.2.1 dX0_runStart_43 rfl (lv_at hl 0 rfl) ?_
      refine lv_iload_n S.1 S.2.1 dX0_runStart_44 rfl (lv_at hl 1 rfl) ?_
      refine lv_iload S.1 S.2.1 dX0_runStart_45 (lv_at hl 5 rfl) ?_
      refine yc_after (x := y) S hK hP hf hGb hB (hR.le (by decide) (by decide)) hl.1 (Nat.le_of_ble_eq_true rfl) dX0_runStart_47 ?_
      refine lv_istore (lv' := [(5, .int (nI ((y + 1) % 2 ^ b))), (0, .ref (g 0)), (1, .int (nI f)), (2, .int (nI (Qq % 2 ^ b))), (3, .int (nI (64 * f))), (4, .int (nI (x % 2 ^ b)))]) S.1 S.2.1 dX0_runStart_50 hl (by decide) rfl (fun ls hl => ?_)
      refine rs_loop2 S hK hf hB hR hP hGb (y := s1) a3 (fun ls hl => ?_) (s1 - (y + 1)) (y + 1) (by omega) (fun t t1 t2 => a2 t (by omega) t2) ls (lv_sub hl [1, 2, 3, 4, 5, 0] rfl)
      refine lv_aload_n S.1 S.2.1 dX0_runStart_76 rfl (lv_at hl 0 rfl) ?_
      refine lv_iload_n S.1 S.2.1 dX0_runStart_77 rfl (lv_at hl 1 rfl) ?_
      refine lv_iload S.1 S.2.1 dX0_runStart_78 (lv_at hl 4 rfl) ?_
      refine yc_after (x := x) S hK hP hf hGb hB (hR.le (by decide) (by decide)) hl.1 (Nat.le_of_ble_eq_true rfl) dX0_runStart_80 ?_
      refine lv_istore (lv' := [(4, .int (nI ((x + 1) % 2 ^ b))), (0, .ref (g 0)), (1, .int (nI f)), (2, .int (nI (Qq % 2 ^ b))), (3, .int (nI (64 * f))), (5, .int (nI (s1 % 2 ^ b)))]) S.1 S.2.1 dX0_runStart_83 hl (by decide) rfl (fun ls hl => ?_)
      refine rs_loop3 S hK hf hB hR hP hGb (y := b1) a6 (fun ls hl => ?_) (b1 - (x + 1)) (x + 1) (by omega) (fun t t1 t2 => a5 t (by omega) t2) ls (lv_sub hl [1, 2, 3, 4, 0, 5] rfl)
      exact ih b1 s1 a7 ls hl
end QRS
set_option maxHeartbeats 4000000 in
set_option maxRecDepth 100000 in
/-- runStart: by the relation qf_RS -/
theorem met_runStart (l : Launch) (dC : Nat → ClassId) (dI : Nat → Nat → Nat) (dA : Nat → ClassId) (g : Nat → Nat) (F : Nat → qf_FS) (f : Nat) (G : qf_FS) (rc : Nat) (rd : Nat → Nat) (b Qq Rr : Nat) (hf : f < 2) (hGb : qf_B G = b) (hB : qf_bk b) (hrs : qf_RS (qf_pe (2 ^ b) (qf_N G)) (qf_pe (2 ^ b) (qf_O G)) (qf_pe (2 ^ b) (qf_P G)) (2 ^ b) Qq Rr) : Met l yX0_runStart (ws_ yX0_runStart cX0_runStart 6 (some .int)) ({ frames := 2, cells := 0, slots := 0, locals := 43 }) (qf_Pc g dA dC dI (va_up F f G, rc, rd) [.int (nI f), .int (nI (Qq % 2 ^ b))]) (vp_Si (fun r => r = nI (Rr % 2 ^ b))) 0 0 (fun _ => False) := by
  refine qf_met (by decide) rfl (Nat.le_of_ble_eq_true rfl) ?_
  intro p e s m below meth c ls S hr hlocks hP hK hl
  have hR : qf_RM ({ frames := 2, cells := 0, slots := 0, locals := 43 }) 2 43 := ⟨Nat.le_refl _, Nat.le_refl _⟩
  have hl : lv_has ls 6 [(0, .ref (g 0)), (1, .int (nI f)), (2, .int (nI (Qq % 2 ^ b)))] := hl
  refine lv_aload_n S.1 S.2.1 dX0_runStart_0 rfl (lv_at hl 0 rfl) ?_
  refine lv_iload_n S.1 S.2.1 dX0_runStart_1 rfl (lv_at hl 1 rfl) ?_
  refine yc_base S hK hP (hR.le (by decide) (by decide)) hl.1 (Nat.le_of_ble_eq_true rfl) dX0_runStart_2 ?_
  refine lv_istore_n (lv' := [(3, .int (nI (64 * f))), (0, .ref (g 0)), (1, .int (nI f)), (2, .int (nI (Qq % 2 ^ b)))]) S.1 S.2.1 dX0_runStart_5 rfl hl (by decide) rfl (fun ls hl => ?_)
  refine lv_iload_n S.1 S.2.1 dX0_runStart_6 rfl (lv_at hl 3 rfl) ?_
  refine lv_istore (lv' := [(4, .int (nI (Qq % 2 ^ b))), (3, .int (nI (64 * f))), (0, .ref (g 0)), (1, .int (nI f)), (2, .int (nI (Qq % 2 ^ b)))]) S.1 S.2.1 dX0_runStart_7 hl (by decide) rfl (fun ls hl => ?_)
  obtain ⟨b0, n, c1, c2, c3, c4⟩ := hrs
  refine rs_loop1 S hK hf hB hR hP hGb (y := b0) c3 (fun ls hl => ?_) (Qq - b0) Qq (by omega) c2 ls (lv_sub hl [2, 3, 4, 1, 0] rfl)
  refine lv_iload S.1 S.2.1 dX0_runStart_33 (lv_at hl 4 rfl) ?_
  refine lv_istore (lv' := [(5, .int (nI (b0 % 2 ^ b))), (0, .ref (g 0)), (1, .int (nI f)), (2, .int (nI (Qq % 2 ^ b))), (3, .int (nI (64 * f))), (4, .int (nI (b0 % 2 ^ b)))]) S.1 S.2.1 dX0_runStart_35 hl (by decide) rfl (fun ls hl => ?_)
  refine rs_loop S hK hf hB hR hP hGb (Rr := Rr) (fun ls hl => ?_) n b0 b0 c4 ls (lv_sub hl [1, 2, 3, 4, 5, 0] rfl)
  refine lv_iload S.1 S.2.1 dX0_runStart_109 (lv_at hl 5 rfl) ?_
  exact W.iret S.1 S.2.1 hr (fun t ht hW => ⟨_, rfl, rfl, ht⟩) (fun _ h => by cases h) dX0_runStart_111
section QRS2
variable {p : Program} {l : Launch} {e : Env} {R : Room} {s : State} {m : MethodId} {args : Array Value} {below : List Frame} {meth : Method} {c : Code} {H H0 : Heap} {locs : List Loc} {cells slots : Nat} {Q : State → Prop} {cc : ByteArray} {pc nL : Nat} {ls : Array Slot} {rest : List Value} {g : Nat → Nat} {dC : Nat → ClassId} {dI : Nat → Nat → Nat} {dA : Nat → ClassId} {F : Nat → qf_FS} {f b : Nat} {G : qf_FS} {rc : Nat} {rd : Nat → Nat} {u : qf_QS}
theorem yc_runStart {Qq Rr : Nat} (S : CallFix p m c cc nL s args lw_all RX0) (hK : va_K (dC, dI) qf_cl (qf_tys dA) s) (hP : va_P (dC, dI) qf_cl (qf_w g dA (va_up F f G, rc, rd)) H) (hf : f < 2) (hGb : qf_B G = b) (hB : qf_bk b) (hrs : qf_RS (qf_pe (2 ^ b) (qf_N G)) (qf_pe (2 ^ b) (qf_O G)) (qf_pe (2 ^ b) (qf_P G)) (2 ^ b) Qq Rr) (hR : qf_RM R 3 (8 + (6 + 11) + 43)) (hsz : ls.size = nL) (hroom : (rest.map fun v => v.category).sum ≤ 8) (hdg : decode cc pc = .ok (.invokevirtual 92, 3)) (kk : W p l e R s m args below meth c H locs 0 0 Q (F0 m (pc + 3) ls (.int (nI (Rr % 2 ^ b)) :: rest))) : W p l e R s m args below meth c H locs 0 0 Q (F0 m pc ls (.int (nI (Qq % 2 ^ b)) :: .int (nI f) :: .ref (g 0) :: rest)) :=
  qf_callR S hK hP (met_runStart l dC dI dA g F f G rc rd b Qq Rr hf hGb hB hrs) (lw_V q100 q102 qs8 q21 q103) rfl rfl (by decide +kernel) hR (n := 2) rfl hsz hroom hdg ⟨Nat.zero_le _, Nat.zero_le _⟩ (As := [.int (nI f), .int (nI (Qq % 2 ^ b))]) rfl (fun r hr => by rw [hr]; exact kk)
end QRS2
end
section
/-! THE INVARIANT of a filter, c p: how often the fingerprint p is there; what timesOf, insert .. need of it -/
def qf_inv (b : Nat) (G : qf_FS) (c : Nat → Nat) : Prop :=
  qf_bk b ∧ qf_B G = b ∧ qf_H G < 2 ^ b ∧ ∃ D, qf_Iv (2 ^ b) (2 ^ (8 - b)) (qf_pe (2 ^ b) (qf_U G)) (qf_pe (2 ^ b) (qf_N G)) (qf_pe (2 ^ b) (qf_O G)) (qf_pe (2 ^ b) (qf_P G)) D (qf_pe (2 ^ b) (qf_L G)) (qf_H G) c
theorem qf_bk_pos {b : Nat} (h : qf_bk b) : 0 < 2 ^ b := Nat.lt_of_lt_of_le (by decide) (qf_bk_64 h).1
theorem qf_slot_lt {b y : Nat} (h : qf_bk b) (hy : y < 256) : y / 2 ^ (8 - b) < 2 ^ b := by
  rw [Nat.div_lt_iff_lt_mul (Nat.lt_of_lt_of_le (by decide) (qf_bk_R h).1), qf_bk_256 h]
  exact hy
theorem qf_low_lt {b : Nat} (h : qf_bk b) (y : Nat) : y % 2 ^ (8 - b) < 2 ^ (8 - b) := Nat.mod_lt _ (Nat.lt_of_lt_of_le (by decide) (qf_bk_R h).1)
theorem qf_pr_join (b y : Nat) : y / 2 ^ (8 - b) * 2 ^ (8 - b) + y % 2 ^ (8 - b) = y := by
  rw [Nat.mul_comm]; exact Nat.div_add_mod y (2 ^ (8 - b))
/-- there is a free slot -/
theorem qf_inv_free {b : Nat} {G : qf_FS} {c : Nat → Nat} (h : qf_inv b G c) : ∃ z, z < 2 ^ b ∧ qf_U G z = false := by
  obtain ⟨hb, -, hH, D, -, -, -, hct, -⟩ := h
  obtain ⟨i, i1, i2⟩ := qf_ct_free (P := qf_pe (2 ^ b) (qf_U G)) (a := 0) (n := 2 ^ b) (by rw [hct]; exact hH)
  rw [Nat.zero_add, qf_pe_at _ i1] at i2
  exact ⟨i, i1, i2⟩
/-- a slot in the window behind z -/
theorem qf_win {N z q : Nat} (hz : z < N) (hq : q < N) : ∃ Q, Q % N = q ∧ z < Q ∧ Q ≤ z + N := by
  rcases Nat.lt_or_ge z q with r | r
  · exact ⟨q, Nat.mod_eq_of_lt hq, r, by omega⟩
  · exact ⟨q + N, by rw [Nat.add_mod_right, Nat.mod_eq_of_lt hq], by omega, by omega⟩
theorem qf_inv_low {b : Nat} {G : qf_FS} {c : Nat → Nat} (h : qf_inv b G c) {x : Nat} (hu : qf_U G (x % 2 ^ b) = true) : qf_L G (x % 2 ^ b) < 2 ^ (8 - b) := by
  obtain ⟨hb, -, hH, D, -, -, hL, -, -⟩ := h
  exact hL x hu
/-- what timesOf walks -/
theorem qf_inv_tm {b : Nat} {G : qf_FS} {c : Nat → Nat} (h : qf_inv b G c) {y : Nat} (hy : y < 256) :
    (qf_N G (y / 2 ^ (8 - b)) = false → c y = 0) ∧ (qf_N G (y / 2 ^ (8 - b)) = true → ∃ Q S E, Q % 2 ^ b = y / 2 ^ (8 - b) ∧ qf_RS (qf_pe (2 ^ b) (qf_N G)) (qf_pe (2 ^ b) (qf_O G)) (qf_pe (2 ^ b) (qf_P G)) (2 ^ b) Q S ∧ S < E ∧ (∀ t, S < t → t < E → qf_O G (t % 2 ^ b) = true) ∧ qf_O G (E % 2 ^ b) = false ∧ (∀ t, S ≤ t → t < E → qf_L G (t % 2 ^ b) < 2 ^ (8 - b)) ∧ qf_ct (fun x => qf_L G (x % 2 ^ b) == y % 2 ^ (8 - b)) S (E - S) = c y) := by
  obtain ⟨z, z1, z2⟩ := qf_inv_free h
  have h0 := h
  obtain ⟨hb, -, hH, D, I⟩ := h
  have hN := qf_bk_pos hb
  have hq := qf_slot_lt hb hy
  have hw := qf_low_lt hb y
  obtain ⟨Q, Q1, Q2, Q3⟩ := qf_win z1 hq
  have hz : qf_pe (2 ^ b) (qf_U G) z = false := by rw [qf_pe_at _ z1]; exact z2
  have hzN : qf_pe (2 ^ b) (qf_U G) (z + 2 ^ b) = false := by rw [qf_pe_per]; exact hz
  have ey : (Q % 2 ^ b) * 2 ^ (8 - b) + y % 2 ^ (8 - b) = y := by rw [Q1]; exact qf_pr_join b y
  have eN : qf_pe (2 ^ b) (qf_N G) Q = qf_N G (y / 2 ^ (8 - b)) := by unfold qf_pe; rw [Q1]
  constructor
  · intro hn
    have := qf_none hN I hz (Q := Q) (by rw [eN]; exact hn) hw
    rw [ey] at this
    exact this
  · intro hn
    rw [← eN] at hn
    obtain ⟨S, s1, s2⟩ := qf_rs I.1 hz hzN Q2 Q3 (I.1.nm_u hn) (fun _ _ _ => rfl) hn
    obtain ⟨E, e1, e2, e3, e4, e5, e6⟩ := qf_tms hN I hz Q2 Q3 hn s2
    have := e6 _ hw
    rw [ey] at this
    exact ⟨Q, S, E, Q1, s1, e1, e3, e4, fun t t1 t2 => qf_inv_low h0 (e5 t t1 t2).1, this⟩
end
section
/-! timesOf -/
section QTM
variable {p : Program} {l : Launch} {e : Env} {R : Room} {s : State} {m : MethodId} {args : Array Value} {below : List Frame} {meth : Method} {c : Code} {H H0 : Heap} {locs : List Loc} {cells slots : Nat} {Q : State → Prop} {cc : ByteArray} {pc nL : Nat} {ls : Array Slot} {rest : List Value} {g : Nat → Nat} {dC : Nat → ClassId} {dI : Nat → Nat → Nat} {dA : Nat → ClassId} {F : Nat → qf_FS} {f b : Nat} {G : qf_FS} {rc : Nat} {rd : Nat → Nat} {u : qf_QS}
set_option maxHeartbeats 4000000 in
set_option maxRecDepth 100000 in
theorem tm_loop (S : CallFix p m c cX0_timesOf 8 s args lw_all RX0) (hK : va_K (dC, dI) qf_cl (qf_tys dA) s) (hf : f < 2) (hB : qf_bk b) (hR : qf_RM R 2 43) (hP : va_P (dC, dI) qf_cl (qf_w g dA (va_up F f G, rc, rd)) H) (hGb : qf_B G = b) {q2 q3 : Int32} {w E T S0 : Nat} (hw : w < 2 ^ 31) (hE : qf_O G (E % 2 ^ b) = false) (hLb : ∀ t, S0 ≤ t → t < E → qf_L G (t % 2 ^ b) < 2 ^ (8 - b)) (kk : ∀ (x : Nat) (v : Bool) ls, lv_has ls 8 [(0, .ref (g 0)), (1, .int (nI f)), (2, .int q2), (3, .int q3), (4, .int (nI w)), (5, .int (nI (x % 2 ^ b))), (6, .int (nI T)), (7, .int (qf_b v))] → W p l e R s m args below meth c H locs 0 0 Q (F0 m 99 ls [])) :
    ∀ (n x k : Nat) (v : Bool), E = x + n → S0 ≤ x → v = decide (x < E) → (∀ t, x < t → t < E → qf_O G (t % 2 ^ b) = true) → k + qf_ct (fun t => qf_L G (t % 2 ^ b) == w) x (E - x) = T → ∀ ls, lv_has ls 8 [(0, .ref (g 0)), (1, .int (nI f)), (2, .int q2), (3, .int q3), (4, .int (nI w)), (5, .int (nI (x % 2 ^ b))), (6, .int (nI k)), (7, .int (qf_b v))] → W p l e R s m args below meth c H locs 0 0 Q (F0 m 46 ls []) := by
  intro n
  induction n using Nat.strongRecOn with
  | ind n ih =>
    intro x k v hx hx0 hv hal hT ls hl
    refine lv_iload S.1 S.2.1 dX0_timesOf_46 (lv_at hl 7 rfl) ?_
    refine qf_ifeq (tgt := 99) S.1 S.2.1 dX0_timesOf_48 (by decide) (fun h1 => ?_) (fun h1 => ?_)
    · have e1 : x = E := by
        rw [h1] at hv
        have := of_decide_eq_false hv.symm
        omega
      have e2 : k = T := by rw [← hT, e1, Nat.sub_self]; rfl
      rw [e2] at hl
      exact kk _ _ ls hl
    · have hlt : x < E := by
        rw [h1] at hv
        exact of_decide_eq_true hv.symm
      have hct : qf_ct (fun t => qf_L G (t % 2 ^ b) == w) x (E - x) = (if (qf_L G (x % 2 ^ b) == w) = true then 1 else 0) + qf_ct (fun t => qf_L G (t % 2 ^ b) == w) (x + 1) (E - (x + 1)) := by
        rw [show E - x = 1 + (E - (x + 1)) by omega, qf_ct_app, qf_ct_1]
      refine lv_aload_n S.1 S.2.1 dX0_timesOf_51 rfl (lv_at hl 0 rfl) ?_
      refine xg_L S hK hP dX0_timesOf_52 ?_
      refine lv_aload_n S.1 S.2.1 dX0_timesOf_55 rfl (lv_at hl 0 rfl) ?_
      refine lv_iload_n S.1 S.2.1 dX0_timesOf_56 rfl (lv_at hl 1 rfl) ?_
      refine yc_base S hK hP (hR.le (by decide) (by decide)) hl.1 (Nat.le_of_ble_eq_true rfl) dX0_timesOf_57 ?_
      refine lv_iload S.1 S.2.1 dX0_timesOf_60 (lv_at hl 5 rfl) ?_
      refine lv_iadd S.1 S.2.1 dX0_timesOf_62 ?_
      refine qf_top (nI_add _ _) ?_
      refine yl_L S hK hP rfl hf (qf_bk_s hB _) dX0_timesOf_63 ?_
      refine lv_iload S.1 S.2.1 dX0_timesOf_64 (lv_at hl 4 rfl) ?_
      refine qf_icmpne (tgt := 72) S.1 S.2.1 (Nat.lt_trans (hLb x hx0 hlt) (Nat.lt_of_le_of_lt (qf_bk_R hB).2 (by decide))) hw dX0_timesOf_66 (by decide) (fun h2 => ?_) (fun h2 => ?_)
      · refine lv_aload_n S.1 S.2.1 dX0_timesOf_72 rfl (lv_at hl 0 rfl) ?_
        refine lv_iload_n S.1 S.2.1 dX0_timesOf_73 rfl (lv_at hl 1 rfl) ?_
        refine lv_iload S.1 S.2.1 dX0_timesOf_74 (lv_at hl 5 rfl) ?_
        refine yc_after (x := x) S hK hP hf hGb hB (hR.le (by decide) (by decide)) hl.1 (Nat.le_of_ble_eq_true rfl) dX0_timesOf_76 ?_
        refine lv_istore (lv' := [(5, .int (nI ((x + 1) % 2 ^ b))), (0, .ref (g 0)), (1, .int (nI f)), (2, .int q2), (3, .int q3), (4, .int (nI w)), (6, .int (nI k)), (7, .int (qf_b v))]) S.1 S.2.1 dX0_timesOf_79 hl (by decide) rfl (fun ls hl => ?_)
        refine lv_aload_n S.1 S.2.1 dX0_timesOf_81 rfl (lv_at hl 1 rfl) ?_
        refine xg_O S hK hP dX0_timesOf_82 ?_
        refine lv_aload_n S.1 S.2.1 dX0_timesOf_85 rfl (lv_at hl 1 rfl) ?_
        refine lv_iload_n S.1 S.2.1 dX0_timesOf_86 rfl (lv_at hl 2 rfl) ?_
        refine yc_base S hK hP (hR.le (by decide) (by decide)) hl.1 (Nat.le_of_ble_eq_true rfl) dX0_timesOf_87 ?_
        refine lv_iload S.1 S.2.1 dX0_timesOf_90 (lv_at hl 0 rfl) ?_
        refine lv_iadd S.1 S.2.1 dX0_timesOf_92 ?_
        refine qf_top (nI_add _ _) ?_
        refine yl_O S hK hP rfl hf (qf_bk_s hB _) dX0_timesOf_93 ?_
        have hv2 : qf_O G ((x + 1) % 2 ^ b) = decide (x + 1 < E) := by
          rcases Nat.lt_or_ge (x + 1) E with q | q
          · rw [decide_eq_true q]; exact hal (x + 1) (by omega) q
          · rw [decide_eq_false (by omega), show x + 1 = E by omega]; exact hE
        refine lv_istore (lv' := [(7, .int (qf_b (qf_O G ((x + 1) % 2 ^ b)))), (5, .int (nI ((x + 1) % 2 ^ b))), (0, .ref (g 0)), (1, .int (nI f)), (2, .int q2), (3, .int q3), (4, .int (nI w)), (6, .int (nI k))]) S.1 S.2.1 dX0_timesOf_94 hl (by decide) rfl (fun ls hl => ?_)
        refine lv_goto (tgt := 46) S.1 S.2.1 dX0_timesOf_96 (by decide) ?_
        exact ih (n - 1) (by omega) (x + 1) (k) _ (by omega) (by omega) hv2 (fun t t1 t2 => hal t (by omega) t2) (by rw [hct] at hT; simp only [beq_iff_eq, h2, if_false, if_true] at hT; omega) ls (lv_sub hl [2, 3, 4, 5, 6, 1, 7, 0] rfl)
      · refine lv_iinc (v := nI (k + 1)) (lv' := [(6, .int (nI (k + 1))), (0, .ref (g 0)), (1, .int (nI f)), (2, .int q2), (3, .int q3), (4, .int (nI w)), (5, .int (nI (x % 2 ^ b))), (7, .int (qf_b v))]) S.1 S.2.1 dX0_timesOf_69 hl (k := 6) rfl (nI_1 _) (by decide) rfl (fun ls hl => ?_)
        refine lv_aload_n S.1 S.2.1 dX0_timesOf_72 rfl (lv_at hl 1 rfl) ?_
        refine lv_iload_n S.1 S.2.1 dX0_timesOf_73 rfl (lv_at hl 2 rfl) ?_
        refine lv_iload S.1 S.2.1 dX0_timesOf_74 (lv_at hl 6 rfl) ?_
        refine yc_after (x := x) S hK hP hf hGb hB (hR.le (by decide) (by decide)) hl.1 (Nat.le_of_ble_eq_true rfl) dX0_timesOf_76 ?_
        refine lv_istore (lv' := [(5, .int (nI ((x + 1) % 2 ^ b))), (6, .int (nI (k + 1))), (0, .ref (g 0)), (1, .int (nI f)), (2, .int q2), (3, .int q3), (4, .int (nI w)), (7, .int (qf_b v))]) S.1 S.2.1 dX0_timesOf_79 hl (by decide) rfl (fun ls hl => ?_)
        refine lv_aload_n S.1 S.2.1 dX0_timesOf_81 rfl (lv_at hl 2 rfl) ?_
        refine xg_O S hK hP dX0_timesOf_82 ?_
        refine lv_aload_n S.1 S.2.1 dX0_timesOf_85 rfl (lv_at hl 2 rfl) ?_
        refine lv_iload_n S.1 S.2.1 dX0_timesOf_86 rfl (lv_at hl 3 rfl) ?_
        refine yc_base S hK hP (hR.le (by decide) (by decide)) hl.1 (Nat.le_of_ble_eq_true rfl) dX0_timesOf_87 ?_
        refine lv_iload S.1 S.2.1 dX0_timesOf_90 (lv_at hl 0 rfl) ?_
        refine lv_iadd S.1 S.2.1 dX0_timesOf_92 ?_
        refine qf_top (nI_add _ _) ?_
        refine yl_O S hK hP rfl hf (qf_bk_s hB _) dX0_timesOf_93 ?_
        have hv2 : qf_O G ((x + 1) % 2 ^ b) = decide (x + 1 < E) := by
          rcases Nat.lt_or_ge (x + 1) E with q | q
          · rw [decide_eq_true q]; exact hal (x + 1) (by omega) q
          · rw [decide_eq_false (by omega), show x + 1 = E by omega]; exact hE
        refine lv_istore (lv' := [(7, .int (qf_b (qf_O G ((x + 1) % 2 ^ b)))), (5, .int (nI ((x + 1) % 2 ^ b))), (6, .int (nI (k + 1))), (0, .ref (g 0)), (1, .int (nI f)), (2, .int q2), (3, .int q3), (4, .int (nI w))]) S.1 S.2.1 dX0_timesOf_94 hl (by decide) rfl (fun ls hl => ?_)
        refine lv_goto (tgt := 46) S.1 S.2.1 dX0_timesOf_96 (by decide) ?_
        exact ih (n - 1) (by omega) (x + 1) (k + 1) _ (by omega) (by omega) hv2 (fun t t1 t2 => hal t (by omega) t2) (by rw [hct] at hT; simp only [beq_iff_eq, h2, if_false, if_true] at hT; omega) ls (lv_sub hl [3, 4, 5, 6, 7, 1, 2, 0] rfl)
end QTM
set_option maxHeartbeats 4000000 in
set_option maxRecDepth 100000 in
/-- timesOf answers how often the fingerprint is there -/
theorem met_timesOf (l : Launch) (dC : Nat → ClassId) (dI : Nat → Nat → Nat) (dA : Nat → ClassId) (g : Nat → Nat) (F : Nat → qf_FS) (f : Nat) (G : qf_FS) (rc : Nat) (rd : Nat → Nat) (b y : Nat) (c : Nat → Nat) (hf : f < 2) (hI : qf_inv b G c) (hp : y < 256) : Met l yX0_timesOf (ws_ yX0_timesOf cX0_timesOf 8 (some .int)) ({ frames := 3, cells := 0, slots := 0, locals := 68 }) (qf_Pc g dA dC dI (va_up F f G, rc, rd) [.int (nI f), .int (nI y)]) (vp_Si (fun r => r = nI (c y))) 0 0 (fun _ => False) := by
  refine qf_met (by decide) rfl (Nat.le_of_ble_eq_true rfl) ?_
  intro p e s m below meth c' ls S hr hlocks hP hK hl
  have hR : qf_RM ({ frames := 3, cells := 0, slots := 0, locals := 68 }) 3 68 := ⟨Nat.le_refl _, Nat.le_refl _⟩
  have hl : lv_has ls 8 [(0, .ref (g 0)), (1, .int (nI f)), (2, .int (nI y))] := hl
  obtain ⟨hB, hGb, -⟩ := id hI
  have hq : y / 2 ^ (8 - b) < 64 := Nat.lt_of_lt_of_le (qf_slot_lt hB hp) (qf_bk_64 hB).2
  refine lv_aload_n S.1 S.2.1 dX0_timesOf_0 rfl (lv_at hl 0 rfl) ?_
  refine lv_iload_n S.1 S.2.1 dX0_timesOf_1 rfl (lv_at hl 1 rfl) ?_
  refine lv_iload_n S.1 S.2.1 dX0_timesOf_2 rfl (lv_at hl 2 rfl) ?_
  refine yc_slotOf S hK hP hf hGb hB hp (hR.le (by decide) (by decide)) hl.1 (Nat.le_of_ble_eq_true rfl) dX0_timesOf_3 ?_
  refine lv_istore_n (lv' := [(3, .int (nI (y / 2 ^ (8 - b)))), (0, .ref (g 0)), (1, .int (nI f)), (2, .int (nI y))]) S.1 S.2.1 dX0_timesOf_6 rfl hl (by decide) rfl (fun ls hl => ?_)
  refine lv_aload_n S.1 S.2.1 dX0_timesOf_7 rfl (lv_at hl 1 rfl) ?_
  refine lv_iload_n S.1 S.2.1 dX0_timesOf_8 rfl (lv_at hl 2 rfl) ?_
  refine lv_iload_n S.1 S.2.1 dX0_timesOf_9 rfl (lv_at hl 3 rfl) ?_
  refine yc_lowerOf S hK hP hf hGb hB hp (hR.le (by decide) (by decide)) hl.1 (Nat.le_of_ble_eq_true rfl) dX0_timesOf_10 ?_
  refine lv_istore (lv' := [(4, .int (nI (y % 2 ^ (8 - b)))), (3, .int (nI (y / 2 ^ (8 - b)))), (0, .ref (g 0)), (1, .int (nI f)), (2, .int (nI y))]) S.1 S.2.1 dX0_timesOf_13 hl (by decide) rfl (fun ls hl => ?_)
  refine lv_aload_n S.1 S.2.1 dX0_timesOf_15 rfl (lv_at hl 2 rfl) ?_
  refine xg_N S hK hP dX0_timesOf_16 ?_
  refine lv_aload_n S.1 S.2.1 dX0_timesOf_19 rfl (lv_at hl 2 rfl) ?_
  refine lv_iload_n S.1 S.2.1 dX0_timesOf_20 rfl (lv_at hl 3 rfl) ?_
  refine yc_base S hK hP (hR.le (by decide) (by decide)) hl.1 (Nat.le_of_ble_eq_true rfl) dX0_timesOf_21 ?_
  refine lv_iload_n S.1 S.2.1 dX0_timesOf_24 rfl (lv_at hl 1 rfl) ?_
  refine lv_iadd S.1 S.2.1 dX0_timesOf_25 ?_
  refine qf_top (nI_add _ _) ?_
  refine yl_N S hK hP rfl hf hq dX0_timesOf_26 ?_
  refine qf_ifne (tgt := 32) S.1 S.2.1 dX0_timesOf_27 (by decide) (fun h1 => ?_) (fun h1 => ?_)
  · obtain ⟨Qq, S0, E, hQ, hrs, t1, t2, t3, t4, t5⟩ := (qf_inv_tm hI hp).2 h1
    refine lv_aload_n S.1 S.2.1 dX0_timesOf_32 rfl (lv_at hl 2 rfl) ?_
    refine lv_iload_n S.1 S.2.1 dX0_timesOf_33 rfl (lv_at hl 3 rfl) ?_
    refine lv_iload_n S.1 S.2.1 dX0_timesOf_34 rfl (lv_at hl 1 rfl) ?_
    refine qf_top (congrArg nI hQ.symm) ?_
    refine yc_runStart S hK hP hf hGb hB hrs (hR.le (by decide) (by decide)) hl.1 (Nat.le_of_ble_eq_true rfl) dX0_timesOf_35 ?_
    refine lv_istore (lv' := [(5, .int (nI (S0 % 2 ^ b))), (4, .int (nI (y % 2 ^ (8 - b)))), (3, .int (nI (y / 2 ^ (8 - b)))), (0, .ref (g 0)), (1, .int (nI f)), (2, .int (nI y))]) S.1 S.2.1 dX0_timesOf_38 hl (by decide) rfl (fun ls hl => ?_)
    refine lv_iconst (v := nI 0) S.1 S.2.1 dX0_timesOf_40 (by decide) ?_
    refine lv_istore (lv' := [(6, .int (nI 0)), (5, .int (nI (S0 % 2 ^ b))), (4, .int (nI (y % 2 ^ (8 - b)))), (3, .int (nI (y / 2 ^ (8 - b)))), (0, .ref (g 0)), (1, .int (nI f)), (2, .int (nI y))]) S.1 S.2.1 dX0_timesOf_41 hl (by decide) rfl (fun ls hl => ?_)
    refine lv_iconst (v := qf_b true) S.1 S.2.1 dX0_timesOf_43 (by decide) ?_
    refine lv_istore (lv' := [(7, .int (qf_b true)), (6, .int (nI 0)), (5, .int (nI (S0 % 2 ^ b))), (4, .int (nI (y % 2 ^ (8 - b)))), (3, .int (nI (y / 2 ^ (8 - b)))), (0, .ref (g 0)), (1, .int (nI f)), (2, .int (nI y))]) S.1 S.2.1 dX0_timesOf_44 hl (by decide) rfl (fun ls hl => ?_)
    refine tm_loop S hK hf hB (hR.le (by decide) (by decide)) hP hGb (w := y % 2 ^ (8 - b)) (E := E) (T := c y) (S0 := S0) (Nat.lt_trans (qf_low_lt hB y) (Nat.lt_of_le_of_lt (qf_bk_R hB).2 (by decide))) t3 t4 (fun x v ls hl => ?_) (E - S0) S0 0 true (by omega) (Nat.le_refl _) (decide_eq_true t1).symm t2 (by rw [Nat.zero_add]; exact t5) ls (lv_sub hl [5, 6, 7, 4, 3, 2, 1, 0] rfl)
    refine lv_iload S.1 S.2.1 dX0_timesOf_99 (lv_at hl 6 rfl) ?_
    exact W.iret S.1 S.2.1 hr (fun t ht hW => ⟨_, rfl, rfl, ht⟩) (fun _ h => by cases h) dX0_timesOf_101
  · refine lv_iconst (v := nI 0) S.1 S.2.1 dX0_timesOf_30 (by decide) ?_
    exact W.iret S.1 S.2.1 hr (fun t ht hW => ⟨_, rfl, by rw [(qf_inv_tm hI hp).1 h1], ht⟩) (fun _ h => by cases h) dX0_timesOf_31
section QTM2
variable {p : Program} {l : Launch} {e : Env} {R : Room} {s : State} {m : MethodId} {args : Array Value} {below : List Frame} {meth : Method} {c : Code} {H H0 : Heap} {locs : List Loc} {cells slots : Nat} {Q : State → Prop} {cc : ByteArray} {pc nL : Nat} {ls : Array Slot} {rest : List Value} {g : Nat → Nat} {dC : Nat → ClassId} {dI : Nat → Nat → Nat} {dA : Nat → ClassId} {F : Nat → qf_FS} {f b : Nat} {G : qf_FS} {rc : Nat} {rd : Nat → Nat} {u : qf_QS}
theorem yc_timesOf {y : Nat} {c' : Nat → Nat} (S : CallFix p m c cc nL s args lw_all RX0) (hK : va_K (dC, dI) qf_cl (qf_tys dA) s) (hP : va_P (dC, dI) qf_cl (qf_w g dA (va_up F f G, rc, rd)) H) (hf : f < 2) (hI : qf_inv b G c') (hp : y < 256) (hR : qf_RM R 4 (8 + (8 + 11) + 68)) (hsz : ls.size = nL) (hroom : (rest.map fun v => v.category).sum ≤ 8) (hdg : decode cc pc = .ok (.invokevirtual 48, 3)) (kk : W p l e R s m args below meth c H locs 0 0 Q (F0 m (pc + 3) ls (.int (nI (c' y)) :: rest))) : W p l e R s m args below meth c H locs 0 0 Q (F0 m pc ls (.int (nI y) :: .int (nI f) :: .ref (g 0) :: rest)) :=
  qf_callR S hK hP (met_timesOf l dC dI dA g F f G rc rd b y c' hf hI hp) (lw_V q116 q118 qs12 q21 q119) rfl rfl (by decide +kernel) hR (n := 2) rfl hsz hroom hdg ⟨Nat.zero_le _, Nat.zero_le _⟩ (As := [.int (nI f), .int (nI y)]) rfl (fun r hr => by rw [hr]; exact kk)
end QTM2
end
section
/-! push, as a function; what insert does, as a law -/
def qf_put3 (G : qf_FS) (x w : Nat) (fo aw : Bool) : qf_FS := qf_setP (qf_setO (qf_setL G x w) x fo) x aw
def qf_push (N : Nat) : Nat → Nat → Nat → Bool → Bool → qf_FS → qf_FS
  | 0, x, w, fo, aw, G => qf_put3 G (x % N) w fo aw
  | k + 1, x, w, fo, aw, G => qf_push N k (x + 1) (qf_L G (x % N)) (qf_O G (x % N)) true (qf_put3 G (x % N) w fo aw)
theorem qf_up_s {α : Type} (a : Nat → α) (x : Nat) (v : α) : va_up a x v x = v := if_pos rfl
theorem qf_up_n {α : Type} (a : Nat → α) {x t : Nat} (v : α) (h : t ≠ x) : va_up a x v t = a t := if_neg h
theorem qf_ne_mod {N x i : Nat} (h1 : 0 < i) (h2 : i < N) : (x + i) % N ≠ x % N := by
  intro e
  obtain ⟨k, hk⟩ := qf_mod_diff e.symm (Nat.le_add_right x i)
  cases k with
  | zero => omega
  | succ k => rw [Nat.mul_succ] at hk; omega
theorem qf_push_at {N : Nat} : ∀ (k x w : Nat) (fo aw : Bool) (G : qf_FS), k < N →
    (qf_B (qf_push N k x w fo aw G) = qf_B G ∧ qf_H (qf_push N k x w fo aw G) = qf_H G ∧ qf_N (qf_push N k x w fo aw G) = qf_N G) ∧
    (qf_L (qf_push N k x w fo aw G) (x % N) = w ∧ qf_O (qf_push N k x w fo aw G) (x % N) = fo ∧ qf_P (qf_push N k x w fo aw G) (x % N) = aw) ∧
    (∀ i, i < k → qf_L (qf_push N k x w fo aw G) ((x + (i + 1)) % N) = qf_L G ((x + i) % N) ∧ qf_O (qf_push N k x w fo aw G) ((x + (i + 1)) % N) = qf_O G ((x + i) % N) ∧ qf_P (qf_push N k x w fo aw G) ((x + (i + 1)) % N) = true) ∧
    (∀ t, (∀ i, i ≤ k → t ≠ (x + i) % N) → qf_L (qf_push N k x w fo aw G) t = qf_L G t ∧ qf_O (qf_push N k x w fo aw G) t = qf_O G t ∧ qf_P (qf_push N k x w fo aw G) t = qf_P G t) := by
  intro k
  induction k with
  | zero =>
    intro x w fo aw G hk
    refine ⟨⟨rfl, rfl, rfl⟩, ⟨qf_up_s _ _ _, qf_up_s _ _ _, qf_up_s _ _ _⟩, fun i hi => absurd hi (Nat.not_lt_zero _), fun t ht => ?_⟩
    have h := ht 0 (Nat.le_refl _)
    rw [Nat.add_zero] at h
    exact ⟨qf_up_n _ _ h, qf_up_n _ _ h, qf_up_n _ _ h⟩
  | succ k ih =>
    intro x w fo aw G hk
    obtain ⟨⟨a1, a2, a3⟩, ⟨b1, b2, b3⟩, c1, d1⟩ := ih (x + 1) (qf_L G (x % N)) (qf_O G (x % N)) true (qf_put3 G (x % N) w fo aw) (by omega)
    have hx : ∀ i, i ≤ k → x % N ≠ (x + 1 + i) % N := fun i hi => by
      rw [show x + 1 + i = x + (1 + i) by omega]
      exact (qf_ne_mod (by omega) (by omega)).symm
    obtain ⟨e1, e2, e3⟩ := d1 (x % N) hx
    refine ⟨⟨a1, a2, a3⟩, ⟨e1.trans (qf_up_s _ _ _), e2.trans (qf_up_s _ _ _), e3.trans (qf_up_s _ _ _)⟩, fun i hi => ?_, fun t ht => ?_⟩
    · cases i with
      | zero => exact ⟨b1, b2, b3⟩
      | succ i =>
        obtain ⟨f1, f2, f3⟩ := c1 i (by omega)
        have hne : (x + 1 + i) % N ≠ x % N := (hx i (by omega)).symm
        rw [show x + (i + 1 + 1) = x + 1 + (i + 1) by omega, show x + (i + 1) = x + 1 + i by omega]
        exact ⟨f1.trans (qf_up_n _ _ hne), f2.trans (qf_up_n _ _ hne), f3⟩
    · have h0 := ht 0 (Nat.zero_le _)
      rw [Nat.add_zero] at h0
      obtain ⟨f1, f2, f3⟩ := d1 t (fun i hi => by
        have := ht (i + 1) (by omega)
        rw [show x + (i + 1) = x + 1 + i by omega] at this
        exact this)
      exact ⟨f1.trans (qf_up_n _ _ h0), f2.trans (qf_up_n _ _ h0), f3.trans (qf_up_n _ _ h0)⟩
/-- the state behind 'held++; named[slot] = true' -/
def qf_g1 (G : qf_FS) (q : Nat) : qf_FS := qf_setN (qf_setH G (qf_H G + 1)) q true
/-- and behind 'goesOn[start] = true', where that is done -/
def qf_g2 (G : qf_FS) (q st : Nat) (z : Bool) : qf_FS := if z then qf_setO (qf_g1 G q) st true else qf_g1 G q
theorem qf_g2_O {G : qf_FS} {q st : Nat} {z : Bool} {t : Nat} (h : z = true → t ≠ st) : qf_O (qf_g2 G q st z) t = qf_O G t := by
  cases z with
  | false => rfl
  | true => exact qf_up_n _ _ (h rfl)
theorem qf_g2_P {G : qf_FS} {q st : Nat} {z : Bool} : qf_P (qf_g2 G q st z) = qf_P G := by cases z <;> rfl
theorem qf_g2_L {G : qf_FS} {q st : Nat} {z : Bool} : qf_L (qf_g2 G q st z) = qf_L G := by cases z <;> rfl
theorem qf_g2_N {G : qf_FS} {q st : Nat} {z : Bool} : qf_N (qf_g2 G q st z) = va_up (qf_N G) q true := by cases z <;> rfl
theorem qf_g2_B {G : qf_FS} {q st : Nat} {z : Bool} : qf_B (qf_g2 G q st z) = qf_B G := by cases z <;> rfl
theorem qf_g2_H {G : qf_FS} {q st : Nat} {z : Bool} : qf_H (qf_g2 G q st z) = qf_H G + 1 := by cases z <;> rfl
theorem qf_g2_U {G : qf_FS} {q st : Nat} {z : Bool} (hq : qf_U G q = true) (hs : z = true → qf_U G st = true) (t : Nat) : qf_U (qf_g2 G q st z) t = qf_U G t := by
  unfold qf_U
  rw [qf_g2_N, qf_g2_P]
  by_cases e1 : t = q
  · rw [e1, qf_up_s]
    have := hq
    unfold qf_U at this
    rw [this]; rfl
  · rw [qf_up_n _ _ e1]
    cases z with
    | false => rfl
    | true =>
      by_cases e2 : t = st
      · have a := hs rfl
        unfold qf_U at a
        rw [e2, a]
        have : qf_O (qf_g2 G q st true) st = true := qf_up_s _ _ _
        rw [this]; simp
      · rw [qf_g2_O (fun _ => e2)]
/-- insertion into a free slot -/
theorem qf_inv_in0 {b : Nat} {G : qf_FS} {c : Nat → Nat} (h : qf_inv b G c) {y : Nat} (hy : y < 256) (hfull : qf_H G + 1 < 2 ^ b) (hfree : qf_U G (y / 2 ^ (8 - b)) = false) :
    qf_inv b (qf_setL (qf_g1 G (y / 2 ^ (8 - b))) (y / 2 ^ (8 - b)) (y % 2 ^ (8 - b))) (fun p => c p + if y = p then 1 else 0) := by
  obtain ⟨z, z1, z2⟩ := qf_inv_free h
  obtain ⟨hb, hGb, hH, D, I⟩ := h
  have hN := qf_bk_pos hb
  have hq := qf_slot_lt hb hy
  have hw := qf_low_lt hb y
  obtain ⟨Q, Q1, Q2, Q3⟩ := qf_win z1 hq
  have ey : (Q % 2 ^ b) * 2 ^ (8 - b) + y % 2 ^ (8 - b) = y := by rw [Q1]; exact qf_pr_join b y
  generalize y / 2 ^ (8 - b) = q at hfree hq Q1 ⊢
  generalize y % 2 ^ (8 - b) = w at hw ey ⊢
  have hz : qf_pe (2 ^ b) (qf_U G) z = false := by rw [qf_pe_at _ z1]; exact z2
  have hUQ : qf_pe (2 ^ b) (qf_U G) Q = false := by unfold qf_pe; rw [Q1]; exact hfree
  have hf := hfree
  unfold qf_U at hf
  simp only [Bool.or_eq_false_iff] at hf
  have inj : ∀ x, z < x → x ≤ z + 2 ^ b → x ≠ Q → x % 2 ^ b ≠ q := fun x x1 x2 x3 e => x3 (qf_win_inj (N := 2 ^ b) (z := z) (by rw [e, Q1]) x1 x2 Q2 Q3)
  obtain ⟨D', I'⟩ := qf_ins (z := z) (U' := qf_pe (2 ^ b) (qf_U (qf_setL (qf_g1 G q) q w))) (Nm' := qf_pe (2 ^ b) (qf_N (qf_setL (qf_g1 G q) q w))) (Go' := qf_pe (2 ^ b) (qf_O (qf_setL (qf_g1 G q) q w))) (Pu' := qf_pe (2 ^ b) (qf_P (qf_setL (qf_g1 G q) q w))) (L' := qf_pe (2 ^ b) (qf_L (qf_setL (qf_g1 G q) q w))) hN I hz (Q := Q) (s := Q) (e := Q) (w := w) (fol := false) (g1 := false) Q2 (Nat.le_refl _) (Nat.le_refl _) Q3
    (fun t t1 t2 => by omega) (fun t t1 t2 => by omega) hUQ ⟨fun r => (by cases r), fun r => (by omega)⟩ (fun r => by omega) hw
    (fun x => qf_pe_per _ _ x) (fun x => qf_pe_per _ _ x) (fun x => qf_pe_per _ _ x) (fun x => qf_pe_per _ _ x) (fun x => rfl)
    (fun x x1 x2 => by
      show va_up (qf_N G) q true (x % 2 ^ b) = true ↔ (qf_N G (x % 2 ^ b) = true ∨ x = Q)
      by_cases e1 : x = Q
      · rw [e1, Q1, qf_up_s]
        exact ⟨fun _ => Or.inr rfl, fun _ => rfl⟩
      · rw [qf_up_n _ _ (inj x x1 x2 e1)]
        exact ⟨fun r => Or.inl r, fun r => r.elim (fun r => r) (fun r => absurd r e1)⟩)
    (fun x x1 x2 => rfl) (by show qf_O G (Q % 2 ^ b) = false; rw [Q1]; exact hf.1.2) (fun r => by omega) (fun x x1 x2 => by omega) (fun x x1 x2 => rfl)
    (fun x x1 x2 => rfl) (by show qf_P G (Q % 2 ^ b) = true ↔ Q ≠ Q; rw [Q1, hf.2]; exact ⟨fun r => (by cases r), fun r => absurd rfl r⟩) (fun x x1 x2 => by omega) (fun x x1 x2 => rfl)
    (fun x x1 x2 => qf_up_n _ _ (inj x x1 (by omega) (by omega))) (by show va_up (qf_L G) q w (Q % 2 ^ b) = w; rw [Q1]; exact qf_up_s _ _ _) (fun x x1 x2 => by omega) (fun x x1 x2 => qf_up_n _ _ (inj x (by omega) x2 (by omega)))
  rw [ey] at I'
  exact ⟨hb, hGb, hfull, D', I'⟩
/-- insertion along a run: where it goes, and that it keeps the law -/
theorem qf_inv_in1 {b : Nat} {G : qf_FS} {c : Nat → Nat} (h : qf_inv b G c) {y : Nat} (hy : y < 256) (hfull : qf_H G + 1 < 2 ^ b) (hused : qf_U G (y / 2 ^ (8 - b)) = true) :
    ∃ Q S E, Q % 2 ^ b = y / 2 ^ (8 - b) ∧ qf_RS (qf_pe (2 ^ b) (qf_N (qf_g1 G (y / 2 ^ (8 - b))))) (qf_pe (2 ^ b) (qf_O (qf_g1 G (y / 2 ^ (8 - b))))) (qf_pe (2 ^ b) (qf_P (qf_g1 G (y / 2 ^ (8 - b))))) (2 ^ b) Q S ∧ S ≤ E ∧ E < S + 2 ^ b ∧ (qf_N G (y / 2 ^ (8 - b)) = true ↔ S < E) ∧ (∀ t, S < t → t < E → qf_O G (t % 2 ^ b) = true) ∧ (S < E → qf_O G (E % 2 ^ b) = false) ∧ (∀ t, S ≤ t → t < E → qf_L G (t % 2 ^ b) < 2 ^ (8 - b)) ∧
    ∀ s, S ≤ s → s ≤ E → ∃ k, k < 2 ^ b ∧ (∀ i, i < k → qf_U (qf_g2 G (y / 2 ^ (8 - b)) (S % 2 ^ b) (qf_N G (y / 2 ^ (8 - b)) && decide (s = S))) ((s + i) % 2 ^ b) = true ∧ qf_L G ((s + i) % 2 ^ b) < 128) ∧ qf_U (qf_g2 G (y / 2 ^ (8 - b)) (S % 2 ^ b) (qf_N G (y / 2 ^ (8 - b)) && decide (s = S))) ((s + k) % 2 ^ b) = false ∧
      qf_inv b (qf_push (2 ^ b) k s (y % 2 ^ (8 - b)) (qf_N G (y / 2 ^ (8 - b)) && decide (s ≠ S)) (decide (s % 2 ^ b ≠ y / 2 ^ (8 - b))) (qf_g2 G (y / 2 ^ (8 - b)) (S % 2 ^ b) (qf_N G (y / 2 ^ (8 - b)) && decide (s = S)))) (fun p => c p + if y = p then 1 else 0) := by
  obtain ⟨z, z1, z2⟩ := qf_inv_free h
  have h0 := h
  obtain ⟨hb, hGb, hH, D, I⟩ := h
  have hN := qf_bk_pos hb
  have hq := qf_slot_lt hb hy
  have hw := qf_low_lt hb y
  obtain ⟨Q, Q1, Q2, Q3⟩ := qf_win z1 hq
  have ey : (Q % 2 ^ b) * 2 ^ (8 - b) + y % 2 ^ (8 - b) = y := by rw [Q1]; exact qf_pr_join b y
  generalize y / 2 ^ (8 - b) = q at hused hq Q1 ⊢
  generalize y % 2 ^ (8 - b) = w at hw ey ⊢
  have hz : qf_pe (2 ^ b) (qf_U G) z = false := by rw [qf_pe_at _ z1]; exact z2
  have hzN : qf_pe (2 ^ b) (qf_U G) (z + 2 ^ b) = false := by rw [qf_pe_per]; exact hz
  have hUQ : qf_pe (2 ^ b) (qf_U G) Q = true := by unfold qf_pe; rw [Q1]; exact hused
  have inj : ∀ x, z < x → x ≤ z + 2 ^ b → x ≠ Q → x % 2 ^ b ≠ q := fun x x1 x2 x3 e => x3 (qf_win_inj (N := 2 ^ b) (z := z) (by rw [e, Q1]) x1 x2 Q2 Q3)
  have eN : qf_pe (2 ^ b) (qf_N G) Q = qf_N G q := by unfold qf_pe; rw [Q1]
  obtain ⟨S, s1, s2⟩ := qf_rs (Nm1 := qf_pe (2 ^ b) (qf_N (qf_g1 G q))) I.1 hz hzN Q2 Q3 hUQ (fun t t1 t2 => qf_up_n _ _ (inj t t1 (by omega) (by omega))) (by show va_up (qf_N G) q true (Q % 2 ^ b) = true; rw [Q1]; exact qf_up_s _ _ _)
  have hSz : S ≤ z + 2 ^ b := by
    rcases Nat.lt_or_ge (z + 2 ^ b) S with r | r
    · have := (s2.2.1 (z + 2 ^ b) Q3 r).1
      rw [hzN] at this; cases this
    · exact r
  have hQS := s2.1
  -- the end of the run, if there is one
  obtain ⟨E, e1, e2, e3, e4, e5, e6⟩ : ∃ E, S ≤ E ∧ E ≤ z + 2 ^ b ∧ (qf_N G q = true ↔ S < E) ∧ (∀ t, S < t → t < E → qf_O G (t % 2 ^ b) = true) ∧ (S < E → qf_O G (E % 2 ^ b) = false) ∧ (∀ t, S ≤ t → t < E → qf_pe (2 ^ b) (qf_U G) t = true ∧ t - D t = Q) := by
    cases hn : qf_N G q with
    | false => exact ⟨S, Nat.le_refl _, hSz, ⟨fun r => (by cases r), fun r => (by omega)⟩, fun t t1 t2 => by omega, fun r => by omega, fun t t1 t2 => by omega⟩
    | true =>
      obtain ⟨E, a1, a2, a3, a4, a5, -⟩ := qf_tms hN I hz Q2 Q3 (by rw [eN]; exact hn) s2
      exact ⟨E, by omega, a2, ⟨fun _ => a1, fun _ => rfl⟩, a3, fun _ => a4, a5⟩
  refine ⟨Q, S, E, Q1, s1, e1, by omega, e3, e4, e5, fun t t1 t2 => qf_inv_low h0 (e6 t t1 t2).1, fun s sS sE => ?_⟩
  have hR := I.1
  obtain ⟨e, f1, f2, f3, f4⟩ := qf_first' (P := qf_pe (2 ^ b) (qf_U G)) (a := s) (b := z + 2 ^ b) (by omega) hzN
  have hst : (qf_N G q && decide (s = S)) = true → qf_U G (S % 2 ^ b) = true := fun r => by
    simp only [Bool.and_eq_true, decide_eq_true_eq] at r
    have := e3.mp r.1
    exact (e6 S (Nat.le_refl _) this).1
  have hU2 := qf_g2_U (q := q) (st := S % 2 ^ b) hused hst
  have hbe : ∀ t, Q ≤ t → t < s → qf_pe (2 ^ b) (qf_U G) t = true ∧ t - D t ≤ Q := fun t t1 t2 => by
    rcases Nat.lt_or_ge t S with r | r
    · have := s2.2.1 t t1 r
      exact ⟨this.1, by omega⟩
    · have := e6 t r (by omega)
      exact ⟨this.1, by omega⟩
  have haf : ∀ t, s ≤ t → t < e → qf_pe (2 ^ b) (qf_U G) t = true ∧ Q ≤ t - D t := fun t t1 t2 => by
    have ut := f3 t t1 t2
    refine ⟨ut, ?_⟩
    have us : qf_pe (2 ^ b) (qf_U G) S = true := by
      rcases Nat.eq_or_lt_of_le sS with r | r
      · rw [r]; exact f3 s (Nat.le_refl _) (by omega)
      · exact (e6 S (Nat.le_refl _) (by omega)).1
    have := s2.2.2 us
    have := qf_mono' hR hz (x := S) (y := t) (by omega) (by omega) us ut
    omega
  have nQ : qf_N G q = false → ∀ t, z < t → qf_pe (2 ^ b) (qf_U G) t = true → t - D t = Q → False := fun hn t t1 t2 t3 => by
    have d := qf_dz hR hz t1 t2
    have := hR.2.2.2.1 t t2 (by omega)
    rw [t3, eN, hn] at this
    cases this
  refine ⟨e - s, by omega, fun i hi => ⟨by rw [hU2]; exact f3 (s + i) (by omega) (by omega), ?_⟩, by rw [hU2, show s + (e - s) = e by omega]; exact f4, ?_⟩
  · exact Nat.lt_of_lt_of_le (qf_inv_low h0 (f3 (s + i) (by omega) (by omega))) (Nat.le_trans (qf_bk_R hb).2 (by decide))
  obtain ⟨⟨a1, a2, a3⟩, ⟨b1, b2, b3⟩, c1, d1⟩ := qf_push_at (N := 2 ^ b) (e - s) s w (qf_N G q && decide (s ≠ S)) (decide (s % 2 ^ b ≠ q)) (qf_g2 G q (S % 2 ^ b) (qf_N G q && decide (s = S))) (by omega)
  generalize hG' : qf_push (2 ^ b) (e - s) s w (qf_N G q && decide (s ≠ S)) (decide (s % 2 ^ b ≠ q)) (qf_g2 G q (S % 2 ^ b) (qf_N G q && decide (s = S))) = G' at a1 a2 a3 b1 b2 b3 c1 d1 ⊢
  rw [qf_g2_B] at a1
  rw [qf_g2_H] at a2
  rw [qf_g2_N] at a3
  rw [qf_g2_L] at c1 d1
  rw [qf_g2_P] at d1
  have mid : ∀ x, s < x → x ≤ e → qf_L G' (x % 2 ^ b) = qf_L G ((x - 1) % 2 ^ b) ∧ qf_O G' (x % 2 ^ b) = qf_O (qf_g2 G q (S % 2 ^ b) (qf_N G q && decide (s = S))) ((x - 1) % 2 ^ b) ∧ qf_P G' (x % 2 ^ b) = true := fun x x1 x2 => by
    have := c1 (x - s - 1) (by omega)
    rw [show s + (x - s - 1 + 1) = x by omega, show s + (x - s - 1) = x - 1 by omega] at this
    exact this
  have off : ∀ x, z < x → x ≤ z + 2 ^ b → (x < s ∨ e < x) → qf_L G' (x % 2 ^ b) = qf_L G (x % 2 ^ b) ∧ qf_O G' (x % 2 ^ b) = qf_O G (x % 2 ^ b) ∧ qf_P G' (x % 2 ^ b) = qf_P G (x % 2 ^ b) := fun x x1 x2 x3 => by
    have := d1 (x % 2 ^ b) (fun i hi r => by
      have := qf_win_inj (N := 2 ^ b) (z := z) r x1 x2 (by omega) (by omega)
      omega)
    rw [qf_g2_O (fun r => fun r2 => by
      simp only [Bool.and_eq_true, decide_eq_true_eq] at r
      have := qf_win_inj (N := 2 ^ b) (z := z) r2 x1 x2 (by omega) (by omega)
      omega)] at this
    exact this
  obtain ⟨D', I'⟩ := qf_ins (z := z) (U' := qf_pe (2 ^ b) (qf_U G')) (Nm' := qf_pe (2 ^ b) (qf_N G')) (Go' := qf_pe (2 ^ b) (qf_O G')) (Pu' := qf_pe (2 ^ b) (qf_P G')) (L' := qf_pe (2 ^ b) (qf_L G')) hN I hz (Q := Q) (s := s) (e := e) (w := w) (fol := qf_N G q && decide (s ≠ S)) (g1 := qf_O (qf_g2 G q (S % 2 ^ b) (qf_N G q && decide (s = S))) (s % 2 ^ b)) Q2 (by omega) f1 f2 hbe haf f4
    (by
      simp only [Bool.and_eq_true, decide_eq_true_eq]
      constructor
      · intro r
        exact ⟨by omega, (e6 (s - 1) (by omega) (by omega)).2⟩
      · intro r
        rcases Nat.lt_or_ge (s - 1) S with q1 | q1
        · have := (s2.2.1 (s - 1) (by omega) q1).2
          omega
        · exact ⟨e3.mpr (by omega), by omega⟩)
    (fun hse => by
      have us := f3 s (Nat.le_refl _) hse
      have ds := qf_dz hR hz (x := s) (by omega) us
      rcases Nat.eq_or_lt_of_le sS with r | r
      · cases hn : qf_N G q with
        | true =>
          have e8 : (true && decide (s = S)) = true := by rw [← r]; simp
          rw [e8, ← r]
          have e9 : qf_O (qf_g2 G q (S % 2 ^ b) true) (S % 2 ^ b) = true := qf_up_s _ _ _
          rw [e9]
          have := (e6 S (Nat.le_refl _) (e3.mp hn)).2
          exact ⟨fun _ => this, fun _ => rfl⟩
        | false =>
          have e9 : qf_O (qf_g2 G q (S % 2 ^ b) (false && decide (s = S))) (s % 2 ^ b) = qf_pe (2 ^ b) (qf_O G) s := rfl
          rw [e9]
          constructor
          · intro g
            have p := hR.2.1 (s - 1) (by rw [show s - 1 + 1 = s by omega]; exact us)
            rw [show s - 1 + 1 = s by omega] at p
            obtain ⟨p1, p2⟩ := p.mp g
            obtain ⟨u1, u2, u3⟩ := qf_step hR hz (x := s) (by omega) us p1
            have := (haf s (Nat.le_refl _) hse).2
            have dd := qf_dz hR hz (x := s - 1) u2 u1
            have := (s2.2.1 (s - 1) (by omega) (by omega)).2
            omega
          · intro g
            exact (nQ hn s (by omega) us g).elim
      · have hn : qf_N G q = true := e3.mpr (by omega)
        have l1 := e6 (s - 1) (by omega) (by omega)
        rw [qf_g2_O (fun r1 => by
          simp only [Bool.and_eq_true, decide_eq_true_eq] at r1
          omega)]
        have := qf_go_iff hR hz (x := s - 1) (by omega) l1.1 (by rw [show s - 1 + 1 = s by omega]; exact us)
        rw [show s - 1 + 1 = s by omega, l1.2] at this
        exact this)
    hw (fun x => qf_pe_per _ _ x) (fun x => qf_pe_per _ _ x) (fun x => qf_pe_per _ _ x) (fun x => qf_pe_per _ _ x) (fun x => rfl)
    (fun x x1 x2 => by
      show qf_N G' (x % 2 ^ b) = true ↔ (qf_N G (x % 2 ^ b) = true ∨ x = Q)
      rw [a3]
      by_cases e1 : x = Q
      · rw [e1, Q1, qf_up_s]
        exact ⟨fun _ => Or.inr rfl, fun _ => rfl⟩
      · rw [qf_up_n _ _ (inj x x1 x2 e1)]
        exact ⟨fun r => Or.inl r, fun r => r.elim (fun r => r) (fun r => absurd r e1)⟩)
    (fun x x1 x2 => (off x x1 (by omega) (Or.inl x2)).2.1) b2 (fun r => by have := (mid (s + 1) (by omega) (by omega)).2.1; rw [Nat.add_sub_cancel] at this; exact this)
    (fun x x1 x2 => by
      have := (mid x (by omega) x2).2.1
      rw [qf_g2_O (fun r => fun r2 => by
        simp only [Bool.and_eq_true, decide_eq_true_eq] at r
        have := qf_win_inj (N := 2 ^ b) (z := z) r2 (by omega) (by omega) (by omega) (by omega)
        omega)] at this
      exact this)
    (fun x x1 x2 => (off x (by omega) x2 (Or.inr x1)).2.1)
    (fun x x1 x2 => (off x x1 (by omega) (Or.inl x2)).2.2)
    (by
      show qf_P G' (s % 2 ^ b) = true ↔ s ≠ Q
      rw [b3, decide_eq_true_eq]
      constructor
      · intro r r2
        exact r (by rw [r2, Q1])
      · intro r
        exact inj s (by omega) (by omega) r)
    (fun x x1 x2 => (mid x x1 x2).2.2) (fun x x1 x2 => (off x (by omega) x2 (Or.inr x1)).2.2)
    (fun x x1 x2 => (off x x1 (by omega) (Or.inl x2)).1) b1 (fun x x1 x2 => (mid x x1 x2).1) (fun x x1 x2 => (off x (by omega) x2 (Or.inr x1)).1)
  rw [ey] at I'
  rw [← a2] at I'
  exact ⟨hb, a1.trans hGb, by rw [a2]; exact hfull, D', I'⟩
end
section
/-! push and insert -/
theorem qf_put3_U {G : qf_FS} {x w t : Nat} {fo aw : Bool} (h : t ≠ x) : qf_U (qf_put3 G x w fo aw) t = qf_U G t := by
  have a : qf_O (qf_put3 G x w fo aw) t = qf_O G t := qf_up_n _ _ h
  have b : qf_P (qf_put3 G x w fo aw) t = qf_P G t := qf_up_n _ _ h
  unfold qf_U
  rw [a, b]
  rfl
theorem qf_put3_L {G : qf_FS} {x w t : Nat} {fo aw : Bool} (h : t ≠ x) : qf_L (qf_put3 G x w fo aw) t = qf_L G t := qf_up_n _ _ h
section QPS
variable {p : Program} {l : Launch} {e : Env} {R : Room} {s : State} {m : MethodId} {args : Array Value} {below : List Frame} {meth : Method} {c : Code} {H H0 : Heap} {locs : List Loc} {cells slots : Nat} {Q : State → Prop} {cc : ByteArray} {pc nL : Nat} {ls : Array Slot} {rest : List Value} {g : Nat → Nat} {dC : Nat → ClassId} {dI : Nat → Nat → Nat} {dA : Nat → ClassId} {F : Nat → qf_FS} {f b : Nat} {G : qf_FS} {rc : Nat} {rd : Nat → Nat} {u : qf_QS}
set_option maxHeartbeats 4000000 in
set_option maxRecDepth 100000 in
theorem ps_loop (S : CallFix p m c cX0_push 14 s args lw_all RX0) (hK : va_K (dC, dI) qf_cl (qf_tys dA) s) (hf : f < 2) (hB : qf_bk b) (hR : qf_RM R 2 44) (hg : qf_dj g) {Gf : qf_FS} (kk : ∀ (H : Heap) (locs : List Loc) (ls : Array Slot), va_P (dC, dI) qf_cl (qf_w g dA (va_up F f (Gf), rc, rd)) H → va_S (qf_A g) H0 H locs → W p l e R s m args below meth c H locs 0 0 Q (F0 m 122 ls [])) :
    ∀ (k x w : Nat) (fo aw : Bool) (G : qf_FS) (H : Heap) (locs : List Loc), qf_B G = b → k < 2 ^ b → w < 128 → (∀ i, i < k → qf_U G ((x + i) % 2 ^ b) = true ∧ qf_L G ((x + i) % 2 ^ b) < 128) → qf_U G ((x + k) % 2 ^ b) = false → qf_push (2 ^ b) k x w fo aw G = Gf → va_P (dC, dI) qf_cl (qf_w g dA (va_up F f (G), rc, rd)) H → va_S (qf_A g) H0 H locs → ∀ ls, lv_has ls 14 [(0, .ref (g 0)), (1, .int (nI f)), (6, .int (nI (64 * f))), (7, .int (nI (x % 2 ^ b))), (8, .int (nI w)), (9, .int (qf_b fo)), (10, .int (qf_b aw)), (11, .int (qf_b true))] → W p l e R s m args below meth c H locs 0 0 Q (F0 m 24 ls []) := by
  intro k
  induction k with
  | zero =>
    intro x w fo aw G H locs hGb hk hw hu hfr hGf hP hS ls hl
    refine lv_iload S.1 S.2.1 dX0_push_24 (lv_at hl 7 rfl) ?_
    refine qf_ifeq (tgt := 122) S.1 S.2.1 dX0_push_26 (by decide) (fun h1 => absurd h1 (by decide)) (fun _ => ?_)
    refine lv_aload_n S.1 S.2.1 dX0_push_29 rfl (lv_at hl 0 rfl) ?_
    refine lv_iload_n S.1 S.2.1 dX0_push_30 rfl (lv_at hl 1 rfl) ?_
    refine lv_iload S.1 S.2.1 dX0_push_31 (lv_at hl 3 rfl) ?_
    refine yc_holds S hK hP hf (qf_bk_s hB _) (hR.le (by decide) (by decide)) hl.1 (Nat.le_of_ble_eq_true rfl) dX0_push_33 ?_
    refine lv_istore (lv' := [(11, .int (qf_b (qf_U G (x % 2 ^ b)))), (0, .ref (g 0)), (1, .int (nI f)), (6, .int (nI (64 * f))), (7, .int (nI (x % 2 ^ b))), (8, .int (nI w)), (9, .int (qf_b fo)), (10, .int (qf_b aw))]) S.1 S.2.1 dX0_push_36 hl (by decide) rfl (fun ls hl => ?_)
    refine lv_aload_n S.1 S.2.1 dX0_push_38 rfl (lv_at hl 1 rfl) ?_
    refine xg_L S hK hP dX0_push_39 ?_
    refine lv_iload S.1 S.2.1 dX0_push_42 (lv_at hl 3 rfl) ?_
    refine lv_iload S.1 S.2.1 dX0_push_44 (lv_at hl 4 rfl) ?_
    refine lv_iadd S.1 S.2.1 dX0_push_46 ?_
    refine qf_top (nI_add _ _) ?_
    refine yl_L S hK hP rfl hf (qf_bk_s hB _) dX0_push_47 ?_
    refine lv_istore (lv' := [(12, .int (nI (qf_L G (x % 2 ^ b)))), (11, .int (qf_b (qf_U G (x % 2 ^ b)))), (0, .ref (g 0)), (1, .int (nI f)), (6, .int (nI (64 * f))), (7, .int (nI (x % 2 ^ b))), (8, .int (nI w)), (9, .int (qf_b fo)), (10, .int (qf_b aw))]) S.1 S.2.1 dX0_push_48 hl (by decide) rfl (fun ls hl => ?_)
    refine lv_aload_n S.1 S.2.1 dX0_push_50 rfl (lv_at hl 2 rfl) ?_
    refine xg_O S hK hP dX0_push_51 ?_
    refine lv_iload S.1 S.2.1 dX0_push_54 (lv_at hl 4 rfl) ?_
    refine lv_iload S.1 S.2.1 dX0_push_56 (lv_at hl 5 rfl) ?_
    refine lv_iadd S.1 S.2.1 dX0_push_58 ?_
    refine qf_top (nI_add _ _) ?_
    refine yl_O S hK hP rfl hf (qf_bk_s hB _) dX0_push_59 ?_
    refine lv_istore (lv' := [(13, .int (qf_b (qf_O G (x % 2 ^ b)))), (12, .int (nI (qf_L G (x % 2 ^ b)))), (11, .int (qf_b (qf_U G (x % 2 ^ b)))), (0, .ref (g 0)), (1, .int (nI f)), (6, .int (nI (64 * f))), (7, .int (nI (x % 2 ^ b))), (8, .int (nI w)), (9, .int (qf_b fo)), (10, .int (qf_b aw))]) S.1 S.2.1 dX0_push_60 hl (by decide) rfl (fun ls hl => ?_)
    refine lv_aload_n S.1 S.2.1 dX0_push_62 rfl (lv_at hl 3 rfl) ?_
    refine xg_L S hK hP dX0_push_63 ?_
    refine lv_iload S.1 S.2.1 dX0_push_66 (lv_at hl 5 rfl) ?_
    refine lv_iload S.1 S.2.1 dX0_push_68 (lv_at hl 6 rfl) ?_
    refine lv_iadd S.1 S.2.1 dX0_push_70 ?_
    refine qf_top (nI_add _ _) ?_
    refine lv_iload S.1 S.2.1 dX0_push_71 (lv_at hl 7 rfl) ?_
    refine lv_i2b (v := nI w) S.1 S.2.1 dX0_push_73 (qf_byte hw) ?_
    refine ys_L S hK hP hg hS rfl rfl hw hf (qf_bk_s hB _) dX0_push_74 (fun H locs hP hS => ?_)
    refine lv_aload_n S.1 S.2.1 dX0_push_75 rfl (lv_at hl 3 rfl) ?_
    refine xg_O S hK hP dX0_push_76 ?_
    refine lv_iload S.1 S.2.1 dX0_push_79 (lv_at hl 5 rfl) ?_
    refine lv_iload S.1 S.2.1 dX0_push_81 (lv_at hl 6 rfl) ?_
    refine lv_iadd S.1 S.2.1 dX0_push_83 ?_
    refine qf_top (nI_add _ _) ?_
    refine lv_iload S.1 S.2.1 dX0_push_84 (lv_at hl 8 rfl) ?_
    refine ys_O (v := fo) S hK hP hg hS rfl rfl hf (qf_bk_s hB _) dX0_push_86 (fun H locs hP hS => ?_)
    refine lv_aload_n S.1 S.2.1 dX0_push_87 rfl (lv_at hl 3 rfl) ?_
    refine xg_P S hK hP dX0_push_88 ?_
    refine lv_iload S.1 S.2.1 dX0_push_91 (lv_at hl 5 rfl) ?_
    refine lv_iload S.1 S.2.1 dX0_push_93 (lv_at hl 6 rfl) ?_
    refine lv_iadd S.1 S.2.1 dX0_push_95 ?_
    refine qf_top (nI_add _ _) ?_
    refine lv_iload S.1 S.2.1 dX0_push_96 (lv_at hl 9 rfl) ?_
    refine ys_P (v := aw) S hK hP hg hS rfl rfl hf (qf_bk_s hB _) dX0_push_98 (fun H locs hP hS => ?_)
    refine lv_iload S.1 S.2.1 dX0_push_99 (lv_at hl 1 rfl) ?_
    refine lv_istore (lv' := [(8, .int (nI (qf_L G (x % 2 ^ b)))), (13, .int (qf_b (qf_O G (x % 2 ^ b)))), (12, .int (nI (qf_L G (x % 2 ^ b)))), (11, .int (qf_b (qf_U G (x % 2 ^ b)))), (0, .ref (g 0)), (1, .int (nI f)), (6, .int (nI (64 * f))), (7, .int (nI (x % 2 ^ b))), (9, .int (qf_b fo)), (10, .int (qf_b aw))]) S.1 S.2.1 dX0_push_101 hl (by decide) rfl (fun ls hl => ?_)
    refine lv_iload S.1 S.2.1 dX0_push_103 (lv_at hl 1 rfl) ?_
    refine lv_istore (lv' := [(9, .int (qf_b (qf_O G (x % 2 ^ b)))), (8, .int (nI (qf_L G (x % 2 ^ b)))), (13, .int (qf_b (qf_O G (x % 2 ^ b)))), (12, .int (nI (qf_L G (x % 2 ^ b)))), (11, .int (qf_b (qf_U G (x % 2 ^ b)))), (0, .ref (g 0)), (1, .int (nI f)), (6, .int (nI (64 * f))), (7, .int (nI (x % 2 ^ b))), (10, .int (qf_b aw))]) S.1 S.2.1 dX0_push_105 hl (by decide) rfl (fun ls hl => ?_)
    refine lv_iconst (v := qf_b true) S.1 S.2.1 dX0_push_107 (by decide) ?_
    refine lv_istore (lv' := [(10, .int (qf_b true)), (9, .int (qf_b (qf_O G (x % 2 ^ b)))), (8, .int (nI (qf_L G (x % 2 ^ b)))), (13, .int (qf_b (qf_O G (x % 2 ^ b)))), (12, .int (nI (qf_L G (x % 2 ^ b)))), (11, .int (qf_b (qf_U G (x % 2 ^ b)))), (0, .ref (g 0)), (1, .int (nI f)), (6, .int (nI (64 * f))), (7, .int (nI (x % 2 ^ b)))]) S.1 S.2.1 dX0_push_108 hl (by decide) rfl (fun ls hl => ?_)
    refine lv_aload_n S.1 S.2.1 dX0_push_110 rfl (lv_at hl 6 rfl) ?_
    refine lv_iload_n S.1 S.2.1 dX0_push_111 rfl (lv_at hl 7 rfl) ?_
    refine lv_iload S.1 S.2.1 dX0_push_112 (lv_at hl 9 rfl) ?_
    refine yc_after (x := x) S hK hP hf hGb hB (hR.le (by decide) (by decide)) hl.1 (Nat.le_of_ble_eq_true rfl) dX0_push_114 ?_
    refine lv_istore (lv' := [(7, .int (nI ((x + 1) % 2 ^ b))), (10, .int (qf_b true)), (9, .int (qf_b (qf_O G (x % 2 ^ b)))), (8, .int (nI (qf_L G (x % 2 ^ b)))), (13, .int (qf_b (qf_O G (x % 2 ^ b)))), (12, .int (nI (qf_L G (x % 2 ^ b)))), (11, .int (qf_b (qf_U G (x % 2 ^ b)))), (0, .ref (g 0)), (1, .int (nI f)), (6, .int (nI (64 * f)))]) S.1 S.2.1 dX0_push_117 hl (by decide) rfl (fun ls hl => ?_)
    refine lv_goto (tgt := 24) S.1 S.2.1 dX0_push_119 (by decide) ?_
    have hfr0 : qf_U G (x % 2 ^ b) = false := hfr
    refine lv_iload S.1 S.2.1 dX0_push_24 (lv_at hl 6 rfl) ?_
    refine qf_ifeq (tgt := 122) S.1 S.2.1 dX0_push_26 (by decide) (fun _ => ?_) (fun h1 => absurd h1 (by rw [hfr0]; decide))
    exact kk H locs ls (by rw [← hGf]; exact hP) hS
  | succ k ih =>
    intro x w fo aw G H locs hGb hk hw hu hfr hGf hP hS ls hl
    refine lv_iload S.1 S.2.1 dX0_push_24 (lv_at hl 7 rfl) ?_
    refine qf_ifeq (tgt := 122) S.1 S.2.1 dX0_push_26 (by decide) (fun h1 => absurd h1 (by decide)) (fun _ => ?_)
    refine lv_aload_n S.1 S.2.1 dX0_push_29 rfl (lv_at hl 0 rfl) ?_
    refine lv_iload_n S.1 S.2.1 dX0_push_30 rfl (lv_at hl 1 rfl) ?_
    refine lv_iload S.1 S.2.1 dX0_push_31 (lv_at hl 3 rfl) ?_
    refine yc_holds S hK hP hf (qf_bk_s hB _) (hR.le (by decide) (by decide)) hl.1 (Nat.le_of_ble_eq_true rfl) dX0_push_33 ?_
    refine lv_istore (lv' := [(11, .int (qf_b (qf_U G (x % 2 ^ b)))), (0, .ref (g 0)), (1, .int (nI f)), (6, .int (nI (64 * f))), (7, .int (nI (x % 2 ^ b))), (8, .int (nI w)), (9, .int (qf_b fo)), (10, .int (qf_b aw))]) S.1 S.2.1 dX0_push_36 hl (by decide) rfl (fun ls hl => ?_)
    refine lv_aload_n S.1 S.2.1 dX0_push_38 rfl (lv_at hl 1 rfl) ?_
    refine xg_L S hK hP dX0_push_39 ?_
    refine lv_iload S.1 S.2.1 dX0_push_42 (lv_at hl 3 rfl) ?_
    refine lv_iload S.1 S.2.1 dX0_push_44 (lv_at hl 4 rfl) ?_
    refine lv_iadd S.1 S.2.1 dX0_push_46 ?_
    refine qf_top (nI_add _ _) ?_
    refine yl_L S hK hP rfl hf (qf_bk_s hB _) dX0_push_47 ?_
    refine lv_istore (lv' := [(12, .int (nI (qf_L G (x % 2 ^ b)))), (11, .int (qf_b (qf_U G (x % 2 ^ b)))), (0, .ref (g 0)), (1, .int (nI f)), (6, .int (nI (64 * f))), (7, .int (nI (x % 2 ^ b))), (8, .int (nI w)), (9, .int (qf_b fo)), (10, .int (qf_b aw))]) S.1 S.2.1 dX0_push_48 hl (by decide) rfl (fun ls hl => ?_)
    refine lv_aload_n S.1 S.2.1 dX0_push_50 rfl (lv_at hl 2 rfl) ?_
    refine xg_O S hK hP dX0_push_51 ?_
    refine lv_iload S.1 S.2.1 dX0_push_54 (lv_at hl 4 rfl) ?_
    refine lv_iload S.1 S.2.1 dX0_push_56 (lv_at hl 5 rfl) ?_
    refine lv_iadd S.1 S.2.1 dX0_push_58 ?_
    refine qf_top (nI_add _ _) ?_
    refine yl_O S hK hP rfl hf (qf_bk_s hB _) dX0_push_59 ?_
    refine lv_istore (lv' := [(13, .int (qf_b (qf_O G (x % 2 ^ b)))), (12, .int (nI (qf_L G (x % 2 ^ b)))), (11, .int (qf_b (qf_U G (x % 2 ^ b)))), (0, .ref (g 0)), (1, .int (nI f)), (6, .int (nI (64 * f))), (7, .int (nI (x % 2 ^ b))), (8, .int (nI w)), (9, .int (qf_b fo)), (10, .int (qf_b aw))]) S.1 S.2.1 dX0_push_60 hl (by decide) rfl (fun ls hl => ?_)
    refine lv_aload_n S.1 S.2.1 dX0_push_62 rfl (lv_at hl 3 rfl) ?_
    refine xg_L S hK hP dX0_push_63 ?_
    refine lv_iload S.1 S.2.1 dX0_push_66 (lv_at hl 5 rfl) ?_
    refine lv_iload S.1 S.2.1 dX0_push_68 (lv_at hl 6 rfl) ?_
    refine lv_iadd S.1 S.2.1 dX0_push_70 ?_
    refine qf_top (nI_add _ _) ?_
    refine lv_iload S.1 S.2.1 dX0_push_71 (lv_at hl 7 rfl) ?_
    refine lv_i2b (v := nI w) S.1 S.2.1 dX0_push_73 (qf_byte hw) ?_
    refine ys_L S hK hP hg hS rfl rfl hw hf (qf_bk_s hB _) dX0_push_74 (fun H locs hP hS => ?_)
    refine lv_aload_n S.1 S.2.1 dX0_push_75 rfl (lv_at hl 3 rfl) ?_
    refine xg_O S hK hP dX0_push_76 ?_
    refine lv_iload S.1 S.2.1 dX0_push_79 (lv_at hl 5 rfl) ?_
    refine lv_iload S.1 S.2.1 dX0_push_81 (lv_at hl 6 rfl) ?_
    refine lv_iadd S.1 S.2.1 dX0_push_83 ?_
    refine qf_top (nI_add _ _) ?_
    refine lv_iload S.1 S.2.1 dX0_push_84 (lv_at hl 8 rfl) ?_
    refine ys_O (v := fo) S hK hP hg hS rfl rfl hf (qf_bk_s hB _) dX0_push_86 (fun H locs hP hS => ?_)
    refine lv_aload_n S.1 S.2.1 dX0_push_87 rfl (lv_at hl 3 rfl) ?_
    refine xg_P S hK hP dX0_push_88 ?_
    refine lv_iload S.1 S.2.1 dX0_push_91 (lv_at hl 5 rfl) ?_
    refine lv_iload S.1 S.2.1 dX0_push_93 (lv_at hl 6 rfl) ?_
    refine lv_iadd S.1 S.2.1 dX0_push_95 ?_
    refine qf_top (nI_add _ _) ?_
    refine lv_iload S.1 S.2.1 dX0_push_96 (lv_at hl 9 rfl) ?_
    refine ys_P (v := aw) S hK hP hg hS rfl rfl hf (qf_bk_s hB _) dX0_push_98 (fun H locs hP hS => ?_)
    refine lv_iload S.1 S.2.1 dX0_push_99 (lv_at hl 1 rfl) ?_
    refine lv_istore (lv' := [(8, .int (nI (qf_L G (x % 2 ^ b)))), (13, .int (qf_b (qf_O G (x % 2 ^ b)))), (12, .int (nI (qf_L G (x % 2 ^ b)))), (11, .int (qf_b (qf_U G (x % 2 ^ b)))), (0, .ref (g 0)), (1, .int (nI f)), (6, .int (nI (64 * f))), (7, .int (nI (x % 2 ^ b))), (9, .int (qf_b fo)), (10, .int (qf_b aw))]) S.1 S.2.1 dX0_push_101 hl (by decide) rfl (fun ls hl => ?_)
    refine lv_iload S.1 S.2.1 dX0_push_103 (lv_at hl 1 rfl) ?_
    refine lv_istore (lv' := [(9, .int (qf_b (qf_O G (x % 2 ^ b)))), (8, .int (nI (qf_L G (x % 2 ^ b)))), (13, .int (qf_b (qf_O G (x % 2 ^ b)))), (12, .int (nI (qf_L G (x % 2 ^ b)))), (11, .int (qf_b (qf_U G (x % 2 ^ b)))), (0, .ref (g 0)), (1, .int (nI f)), (6, .int (nI (64 * f))), (7, .int (nI (x % 2 ^ b))), (10, .int (qf_b aw))]) S.1 S.2.1 dX0_push_105 hl (by decide) rfl (fun ls hl => ?_)
    refine lv_iconst (v := qf_b true) S.1 S.2.1 dX0_push_107 (by decide) ?_
    refine lv_istore (lv' := [(10, .int (qf_b true)), (9, .int (qf_b (qf_O G (x % 2 ^ b)))), (8, .int (nI (qf_L G (x % 2 ^ b)))), (13, .int (qf_b (qf_O G (x % 2 ^ b)))), (12, .int (nI (qf_L G (x % 2 ^ b)))), (11, .int (qf_b (qf_U G (x % 2 ^ b)))), (0, .ref (g 0)), (1, .int (nI f)), (6, .int (nI (64 * f))), (7, .int (nI (x % 2 ^ b)))]) S.1 S.2.1 dX0_push_108 hl (by decide) rfl (fun ls hl => ?_)
    refine lv_aload_n S.1 S.2.1 dX0_push_110 rfl (lv_at hl 6 rfl) ?_
    refine lv_iload_n S.1 S.2.1 dX0_push_111 rfl (lv_at hl 7 rfl) ?_
    refine lv_iload S.1 S.2.1 dX0_push_112 (lv_at hl 9 rfl) ?_
    refine yc_after (x := x) S hK hP hf hGb hB (hR.le (by decide) (by decide)) hl.1 (Nat.le_of_ble_eq_true rfl) dX0_push_114 ?_
    refine lv_istore (lv' := [(7, .int (nI ((x + 1) % 2 ^ b))), (10, .int (qf_b true)), (9, .int (qf_b (qf_O G (x % 2 ^ b)))), (8, .int (nI (qf_L G (x % 2 ^ b)))), (13, .int (qf_b (qf_O G (x % 2 ^ b)))), (12, .int (nI (qf_L G (x % 2 ^ b)))), (11, .int (qf_b (qf_U G (x % 2 ^ b)))), (0, .ref (g 0)), (1, .int (nI f)), (6, .int (nI (64 * f)))]) S.1 S.2.1 dX0_push_117 hl (by decide) rfl (fun ls hl => ?_)
    refine lv_goto (tgt := 24) S.1 S.2.1 dX0_push_119 (by decide) ?_
    have hu0 : qf_U G (x % 2 ^ b) = true := (hu 0 (Nat.zero_lt_succ k)).1
    have hl0 : qf_L G (x % 2 ^ b) < 128 := (hu 0 (Nat.zero_lt_succ k)).2
    rw [hu0] at hl
    have hne : ∀ i, i < k + 1 → (x + 1 + i) % 2 ^ b ≠ x % 2 ^ b := fun i hi => by
      rw [show x + 1 + i = x + (1 + i) by omega]
      exact qf_ne_mod (by omega) (by omega)
    exact ih (x + 1) _ _ _ (qf_put3 G (x % 2 ^ b) w fo aw) H locs hGb (by omega) hl0 (fun i hi => by rw [qf_put3_U (hne i (by omega)), qf_put3_L (hne i (by omega)), show x + 1 + i = x + (i + 1) by omega]; exact hu (i + 1) (by omega)) (by rw [qf_put3_U (hne k (by omega)), show x + 1 + k = x + (k + 1) by omega]; exact hfr) hGf hP hS ls (lv_sub hl [7, 8, 9, 0, 3, 2, 1, 6] rfl)
end QPS
set_option maxHeartbeats 4000000 in
set_option maxRecDepth 100000 in
/-- push: by the function qf_push -/
theorem met_push (l : Launch) (dC : Nat → ClassId) (dI : Nat → Nat → Nat) (dA : Nat → ClassId) (g : Nat → Nat) (F : Nat → qf_FS) (f : Nat) (G : qf_FS) (rc : Nat) (rd : Nat → Nat) (b x w k : Nat) (fo aw : Bool) (hf : f < 2) (hg : qf_dj g) (hGb : qf_B G = b) (hB : qf_bk b) (hw : w < 128) (hk : k < 2 ^ b) (hu : ∀ i, i < k → qf_U G ((x + i) % 2 ^ b) = true ∧ qf_L G ((x + i) % 2 ^ b) < 128) (hfr : qf_U G ((x + k) % 2 ^ b) = false) : Met l yX0_push (ws_ yX0_push cX0_push 14 none) ({ frames := 2, cells := 0, slots := 0, locals := 44 }) (qf_Pc g dA dC dI (va_up F f G, rc, rd) [.int (nI f), .int (nI (x % 2 ^ b)), .int (nI w), .int (qf_b fo), .int (qf_b aw)]) (va_Qv (fun u => u = (va_up F f (qf_push (2 ^ b) k x w fo aw G), rc, rd)) (qf_Bt g dA dC dI) (qf_A g)) 0 0 (qf_A g) := by
  refine qf_met (by decide) rfl (Nat.le_of_ble_eq_true rfl) ?_
  intro p e s m below meth c ls S hr hlocks hP hK hl
  have hR : qf_RM ({ frames := 2, cells := 0, slots := 0, locals := 44 }) 2 44 := ⟨Nat.le_refl _, Nat.le_refl _⟩
  have hl : lv_has ls 14 [(0, .ref (g 0)), (1, .int (nI f)), (2, .int (nI (x % 2 ^ b))), (3, .int (nI w)), (4, .int (qf_b fo)), (5, .int (qf_b aw))] := hl
  refine lv_aload_n S.1 S.2.1 dX0_push_0 rfl (lv_at hl 0 rfl) ?_
  refine lv_iload_n S.1 S.2.1 dX0_push_1 rfl (lv_at hl 1 rfl) ?_
  refine yc_base S hK hP (hR.le (by decide) (by decide)) hl.1 (Nat.le_of_ble_eq_true rfl) dX0_push_2 ?_
  refine lv_istore (lv' := [(6, .int (nI (64 * f))), (0, .ref (g 0)), (1, .int (nI f)), (2, .int (nI (x % 2 ^ b))), (3, .int (nI w)), (4, .int (qf_b fo)), (5, .int (qf_b aw))]) S.1 S.2.1 dX0_push_5 hl (by decide) rfl (fun ls hl => ?_)
  refine lv_iload_n S.1 S.2.1 dX0_push_7 rfl (lv_at hl 3 rfl) ?_
  refine lv_istore (lv' := [(7, .int (nI (x % 2 ^ b))), (6, .int (nI (64 * f))), (0, .ref (g 0)), (1, .int (nI f)), (2, .int (nI (x % 2 ^ b))), (3, .int (nI w)), (4, .int (qf_b fo)), (5, .int (qf_b aw))]) S.1 S.2.1 dX0_push_8 hl (by decide) rfl (fun ls hl => ?_)
  refine lv_iload_n S.1 S.2.1 dX0_push_10 rfl (lv_at hl 5 rfl) ?_
  refine lv_istore (lv' := [(8, .int (nI w)), (7, .int (nI (x % 2 ^ b))), (6, .int (nI (64 * f))), (0, .ref (g 0)), (1, .int (nI f)), (2, .int (nI (x % 2 ^ b))), (3, .int (nI w)), (4, .int (qf_b fo)), (5, .int (qf_b aw))]) S.1 S.2.1 dX0_push_11 hl (by decide) rfl (fun ls hl => ?_)
  refine lv_iload S.1 S.2.1 dX0_push_13 (lv_at hl 7 rfl) ?_
  refine lv_istore (lv' := [(9, .int (qf_b fo)), (8, .int (nI w)), (7, .int (nI (x % 2 ^ b))), (6, .int (nI (64 * f))), (0, .ref (g 0)), (1, .int (nI f)), (2, .int (nI (x % 2 ^ b))), (3, .int (nI w)), (4, .int (qf_b fo)), (5, .int (qf_b aw))]) S.1 S.2.1 dX0_push_15 hl (by decide) rfl (fun ls hl => ?_)
  refine lv_iload S.1 S.2.1 dX0_push_17 (lv_at hl 9 rfl) ?_
  refine lv_istore (lv' := [(10, .int (qf_b aw)), (9, .int (qf_b fo)), (8, .int (nI w)), (7, .int (nI (x % 2 ^ b))), (6, .int (nI (64 * f))), (0, .ref (g 0)), (1, .int (nI f)), (2, .int (nI (x % 2 ^ b))), (3, .int (nI w)), (4, .int (qf_b fo)), (5, .int (qf_b aw))]) S.1 S.2.1 dX0_push_19 hl (by decide) rfl (fun ls hl => ?_)
  refine lv_iconst (v := qf_b true) S.1 S.2.1 dX0_push_21 (by decide) ?_
  refine lv_istore (lv' := [(11, .int (qf_b true)), (10, .int (qf_b aw)), (9, .int (qf_b fo)), (8, .int (nI w)), (7, .int (nI (x % 2 ^ b))), (6, .int (nI (64 * f))), (0, .ref (g 0)), (1, .int (nI f)), (2, .int (nI (x % 2 ^ b))), (3, .int (nI w)), (4, .int (qf_b fo)), (5, .int (qf_b aw))]) S.1 S.2.1 dX0_push_22 hl (by decide) rfl (fun ls hl => ?_)
  refine ps_loop S hK hf hB hR hg (H0 := s.heap) (Gf := qf_push (2 ^ b) k x w fo aw G) (fun H locs ls hP hS => ?_) k x w fo aw G s.heap [] hGb hk hw hu hfr rfl hP va_S.rf ls (lv_sub hl [6, 7, 5, 4, 3, 2, 1, 0] rfl)
  exact W.vret S.1 S.2.1 hr (fun t ht hW => ⟨⟨_, rfl, rfl, by unfold qf_Bt; rw [ht]; exact hP⟩, hS.F ht⟩) hS.2.2 dX0_push_122
section QPS2
variable {p : Program} {l : Launch} {e : Env} {R : Room} {s : State} {m : MethodId} {args : Array Value} {below : List Frame} {meth : Method} {c : Code} {H H0 : Heap} {locs : List Loc} {cells slots : Nat} {Q : State → Prop} {cc : ByteArray} {pc nL : Nat} {ls : Array Slot} {rest : List Value} {g : Nat → Nat} {dC : Nat → ClassId} {dI : Nat → Nat → Nat} {dA : Nat → ClassId} {F : Nat → qf_FS} {f b : Nat} {G : qf_FS} {rc : Nat} {rd : Nat → Nat} {u : qf_QS}
theorem yc_push {x w k : Nat} {fo aw : Bool} (S : CallFix p m c cc nL s args lw_all RX0) (hK : va_K (dC, dI) qf_cl (qf_tys dA) s) (hP : va_P (dC, dI) qf_cl (qf_w g dA (va_up F f (G), rc, rd)) H) (hS : va_S (qf_A g) H0 H locs) (hg : qf_dj g) (hf : f < 2) (hGb : qf_B G = b) (hB : qf_bk b) (hw : w < 128) (hk : k < 2 ^ b) (hu : ∀ i, i < k → qf_U G ((x + i) % 2 ^ b) = true ∧ qf_L G ((x + i) % 2 ^ b) < 128) (hfr : qf_U G ((x + k) % 2 ^ b) = false) (hR : qf_RM R 3 (8 + (14 + 11) + 44)) (hsz : ls.size = nL) (hroom : (rest.map fun v => v.category).sum ≤ 8) (hdg : decode cc pc = .ok (.invokevirtual 98, 3)) (kk : ∀ (H1 : Heap) (locs1 : List Loc), va_P (dC, dI) qf_cl (qf_w g dA (va_up F f (qf_push (2 ^ b) k x w fo aw G), rc, rd)) H1 → va_S (qf_A g) H0 H1 locs1 → W p l e R s m args below meth c H1 locs1 0 0 Q (F0 m (pc + 3) ls rest)) : W p l e R s m args below meth c H locs 0 0 Q (F0 m pc ls (.int (qf_b aw) :: .int (qf_b fo) :: .int (nI w) :: .int (nI (x % 2 ^ b)) :: .int (nI f) :: .ref (g 0) :: rest)) :=
  qf_callv S hK hP hS (fun _ h => h) (met_push l dC dI dA g F f G rc rd b x w k fo aw hf hg hGb hB hw hk hu hfr) (lw_V q112 q114 qs11 q21 q115) rfl rfl (by decide +kernel) hR (n := 5) rfl hsz hroom hdg ⟨Nat.zero_le _, Nat.zero_le _⟩ (As := [.int (nI f), .int (nI (x % 2 ^ b)), .int (nI w), .int (qf_b fo), .int (qf_b aw)]) rfl (fun u1 H1 locs1 h1 h2 h3 _ _ => kk H1 locs1 (by rw [← h1]; exact h2) h3)
end QPS2
section QIN
variable {p : Program} {l : Launch} {e : Env} {R : Room} {s : State} {m : MethodId} {args : Array Value} {below : List Frame} {meth : Method} {c : Code} {H H0 : Heap} {locs : List Loc} {cells slots : Nat} {Q : State → Prop} {cc : ByteArray} {pc nL : Nat} {ls : Array Slot} {rest : List Value} {g : Nat → Nat} {dC : Nat → ClassId} {dI : Nat → Nat → Nat} {dA : Nat → ClassId} {F : Nat → qf_FS} {f b : Nat} {G : qf_FS} {rc : Nat} {rd : Nat → Nat} {u : qf_QS}
set_option maxHeartbeats 4000000 in
set_option maxRecDepth 100000 in
theorem in_loop (S : CallFix p m c cX0_insert 10 s args lw_all RX0) (hK : va_K (dC, dI) qf_cl (qf_tys dA) s) (hf : f < 2) (hB : qf_bk b) (hR : qf_RM R 3 77) (hP : va_P (dC, dI) qf_cl (qf_w g dA (va_up F f G, rc, rd)) H) (hGb : qf_B G = b) {q4 q6 q7 : Int32} {w E S0 : Nat} (hw : w < 2 ^ 31) (hE : S0 < E → qf_O G (E % 2 ^ b) = false) (hLb : ∀ t, S0 ≤ t → t < E → qf_L G (t % 2 ^ b) < 2 ^ (8 - b)) (kk : ∀ (x : Nat) (v : Bool) ls, S0 ≤ x → x ≤ E → lv_has ls 10 [(0, .ref (g 0)), (1, .int (nI f)), (3, .int (nI (64 * f))), (4, .int q4), (5, .int (nI w)), (6, .int q6), (7, .int q7), (8, .int (nI (x % 2 ^ b))), (9, .int (qf_b v))] → W p l e R s m args below meth c H locs 0 0 Q (F0 m 146 ls [])) :
    ∀ (n x : Nat) (v : Bool), E = x + n → S0 ≤ x → v = decide (x < E) → (∀ t, x < t → t < E → qf_O G (t % 2 ^ b) = true) → ∀ ls, lv_has ls 10 [(0, .ref (g 0)), (1, .int (nI f)), (3, .int (nI (64 * f))), (4, .int q4), (5, .int (nI w)), (6, .int q6), (7, .int q7), (8, .int (nI (x % 2 ^ b))), (9, .int (qf_b v))] → W p l e R s m args below meth c H locs 0 0 Q (F0 m 104 ls []) := by
  intro n
  induction n using Nat.strongRecOn with
  | ind n ih =>
    intro x v hx hx0 hv hal ls hl
    refine lv_iload S.1 S.2.1 dX0_insert_104 (lv_at hl 8 rfl) ?_
    refine qf_ifeq (tgt := 146) S.1 S.2.1 dX0_insert_106 (by decide) (fun h1 => ?_) (fun h1 => ?_)
    · exact kk x v ls hx0 (by omega) hl
    · have hlt : x < E := by
        rw [h1] at hv
        exact of_decide_eq_true hv.symm
      refine lv_aload_n S.1 S.2.1 dX0_insert_109 rfl (lv_at hl 0 rfl) ?_
      refine xg_L S hK hP dX0_insert_110 ?_
      refine lv_iload_n S.1 S.2.1 dX0_insert_113 rfl (lv_at hl 2 rfl) ?_
      refine lv_iload S.1 S.2.1 dX0_insert_114 (lv_at hl 7 rfl) ?_
      refine lv_iadd S.1 S.2.1 dX0_insert_116 ?_
      refine qf_top (nI_add _ _) ?_
      refine yl_L S hK hP rfl hf (qf_bk_s hB _) dX0_insert_117 ?_
      refine lv_iload S.1 S.2.1 dX0_insert_118 (lv_at hl 4 rfl) ?_
      refine qf_icmpge (tgt := 146) S.1 S.2.1 (Nat.lt_trans (hLb x hx0 hlt) (Nat.lt_of_le_of_lt (qf_bk_R hB).2 (by decide))) hw dX0_insert_120 (by decide) (fun h2 => ?_) (fun h2 => ?_)
      · exact kk x v ls hx0 (by omega) hl
      · refine lv_aload_n S.1 S.2.1 dX0_insert_123 rfl (lv_at hl 0 rfl) ?_
        refine lv_iload_n S.1 S.2.1 dX0_insert_124 rfl (lv_at hl 1 rfl) ?_
        refine lv_iload S.1 S.2.1 dX0_insert_125 (lv_at hl 7 rfl) ?_
        refine yc_after (x := x) S hK hP hf hGb hB (hR.le (by decide) (by decide)) hl.1 (Nat.le_of_ble_eq_true rfl) dX0_insert_127 ?_
        refine lv_istore (lv' := [(8, .int (nI ((x + 1) % 2 ^ b))), (0, .ref (g 0)), (1, .int (nI f)), (3, .int (nI (64 * f))), (4, .int q4), (5, .int (nI w)), (6, .int q6), (7, .int q7), (9, .int (qf_b v))]) S.1 S.2.1 dX0_insert_130 hl (by decide) rfl (fun ls hl => ?_)
        refine lv_aload_n S.1 S.2.1 dX0_insert_132 rfl (lv_at hl 1 rfl) ?_
        refine xg_O S hK hP dX0_insert_133 ?_
        refine lv_iload_n S.1 S.2.1 dX0_insert_136 rfl (lv_at hl 3 rfl) ?_
        refine lv_iload S.1 S.2.1 dX0_insert_137 (lv_at hl 0 rfl) ?_
        refine lv_iadd S.1 S.2.1 dX0_insert_139 ?_
        refine qf_top (nI_add _ _) ?_
        have hv2 : qf_O G ((x + 1) % 2 ^ b) = decide (x + 1 < E) := by
          rcases Nat.lt_or_ge (x + 1) E with q | q
          · rw [decide_eq_true q]; exact hal (x + 1) (by omega) q
          · rw [decide_eq_false (by omega), show x + 1 = E by omega]; exact hE (by omega)
        refine yl_O S hK hP rfl hf (qf_bk_s hB _) dX0_insert_140 ?_
        refine lv_istore (lv' := [(9, .int (qf_b (qf_O G ((x + 1) % 2 ^ b)))), (8, .int (nI ((x + 1) % 2 ^ b))), (0, .ref (g 0)), (1, .int (nI f)), (3, .int (nI (64 * f))), (4, .int q4), (5, .int (nI w)), (6, .int q6), (7, .int q7)]) S.1 S.2.1 dX0_insert_141 hl (by decide) rfl (fun ls hl => ?_)
        refine lv_goto (tgt := 104) S.1 S.2.1 dX0_insert_143 (by decide) ?_
        exact ih (n - 1) (by omega) (x + 1) _ (by omega) (by omega) hv2 (fun t t1 t2 => hal t (by omega) t2) ls (lv_sub hl [2, 3, 4, 5, 6, 7, 8, 1, 0] rfl)
set_option maxHeartbeats 4000000 in
set_option maxRecDepth 100000 in
theorem in_tail2 (S : CallFix p m c cX0_insert 10 s args lw_all RX0) (hK : va_K (dC, dI) qf_cl (qf_tys dA) s) (hf : f < 2) (hB : qf_bk b) (hR : qf_RM R 3 77) (hg : qf_dj g) (hP : va_P (dC, dI) qf_cl (qf_w g dA (va_up F f G, rc, rd)) H) (hGb : qf_B G = b) (hS : va_S (qf_A g) H0 H locs) {x w k qs S0 : Nat} {fo aw hn v : Bool} (hqs : qs < 64) (haw : aw = decide (x % 2 ^ b ≠ qs)) (hw : w < 128) (hk : k < 2 ^ b) (hu : ∀ i, i < k → qf_U G ((x + i) % 2 ^ b) = true ∧ qf_L G ((x + i) % 2 ^ b) < 128) (hfr : qf_U G ((x + k) % 2 ^ b) = false) (kk : ∀ (H : Heap) (locs : List Loc) (ls : Array Slot), va_P (dC, dI) qf_cl (qf_w g dA (va_up F f (qf_push (2 ^ b) k x w fo aw G), rc, rd)) H → va_S (qf_A g) H0 H locs → W p l e R s m args below meth c H locs 0 0 Q (F0 m 206 ls [])) (ls : Array Slot) (hl : lv_has ls 10 [(0, .ref (g 0)), (1, .int (nI f)), (3, .int (nI (64 * f))), (4, .int (nI qs)), (5, .int (nI w)), (6, .int (qf_b hn)), (7, .int (nI (S0 % 2 ^ b))), (8, .int (nI (x % 2 ^ b))), (9, .int (qf_b v))]) : W p l e R s m args below meth c H locs 0 0 Q (F0 m 191 ls [.int (qf_b fo), .int (nI w), .int (nI (x % 2 ^ b)), .int (nI f), .ref (g 0)]) := by
  refine lv_iload S.1 S.2.1 dX0_insert_191 (lv_at hl 7 rfl) ?_
  refine lv_iload S.1 S.2.1 dX0_insert_193 (lv_at hl 3 rfl) ?_
  refine qf_icmpeq (tgt := 202) S.1 S.2.1 (Nat.lt_trans (qf_bk_s hB _) (by decide)) (Nat.lt_trans hqs (by decide)) dX0_insert_195 (by decide) (fun h1 => ?_) (fun h1 => ?_)
  · refine lv_iconst (v := qf_b false) S.1 S.2.1 dX0_insert_202 (by decide) ?_
    have e1 : false = aw := by rw [haw, h1]; simp
    rw [e1]
    exact yc_push S hK hP hS hg hf hGb hB hw hk hu hfr (hR.le (by decide) (by decide)) hl.1 (Nat.le_of_ble_eq_true rfl) dX0_insert_203 (fun H locs hP hS => kk H locs ls hP hS)
  · refine lv_iconst (v := qf_b true) S.1 S.2.1 dX0_insert_198 (by decide) ?_
    refine lv_goto (tgt := 203) S.1 S.2.1 dX0_insert_199 (by decide) ?_
    have e1 : true = aw := by rw [haw]; exact (decide_eq_true h1).symm
    rw [e1]
    exact yc_push S hK hP hS hg hf hGb hB hw hk hu hfr (hR.le (by decide) (by decide)) hl.1 (Nat.le_of_ble_eq_true rfl) dX0_insert_203 (fun H locs hP hS => kk H locs ls hP hS)
set_option maxHeartbeats 4000000 in
set_option maxRecDepth 100000 in
theorem in_tail (S : CallFix p m c cX0_insert 10 s args lw_all RX0) (hK : va_K (dC, dI) qf_cl (qf_tys dA) s) (hf : f < 2) (hB : qf_bk b) (hR : qf_RM R 3 77) (hg : qf_dj g) (hP : va_P (dC, dI) qf_cl (qf_w g dA (va_up F f G, rc, rd)) H) (hGb : qf_B G = b) (hS : va_S (qf_A g) H0 H locs) {x w k qs S0 : Nat} {fo aw hn v : Bool} (hqs : qs < 64) (hxe : x % 2 ^ b = S0 % 2 ^ b ↔ x = S0) (hfo : fo = (hn && decide (x ≠ S0))) (haw : aw = decide (x % 2 ^ b ≠ qs)) (hw : w < 128) (hk : k < 2 ^ b) (hu : ∀ i, i < k → qf_U G ((x + i) % 2 ^ b) = true ∧ qf_L G ((x + i) % 2 ^ b) < 128) (hfr : qf_U G ((x + k) % 2 ^ b) = false) (kk : ∀ (H : Heap) (locs : List Loc) (ls : Array Slot), va_P (dC, dI) qf_cl (qf_w g dA (va_up F f (qf_push (2 ^ b) k x w fo aw G), rc, rd)) H → va_S (qf_A g) H0 H locs → W p l e R s m args below meth c H locs 0 0 Q (F0 m 206 ls [])) (ls : Array Slot) (hl : lv_has ls 10 [(0, .ref (g 0)), (1, .int (nI f)), (3, .int (nI (64 * f))), (4, .int (nI qs)), (5, .int (nI w)), (6, .int (qf_b hn)), (7, .int (nI (S0 % 2 ^ b))), (8, .int (nI (x % 2 ^ b))), (9, .int (qf_b v))]) : W p l e R s m args below meth c H locs 0 0 Q (F0 m 168 ls []) := by
  refine lv_aload_n S.1 S.2.1 dX0_insert_168 rfl (lv_at hl 0 rfl) ?_
  refine lv_iload_n S.1 S.2.1 dX0_insert_169 rfl (lv_at hl 1 rfl) ?_
  refine lv_iload S.1 S.2.1 dX0_insert_170 (lv_at hl 7 rfl) ?_
  refine lv_iload S.1 S.2.1 dX0_insert_172 (lv_at hl 4 rfl) ?_
  refine lv_iload S.1 S.2.1 dX0_insert_174 (lv_at hl 5 rfl) ?_
  refine qf_ifeq (tgt := 190) S.1 S.2.1 dX0_insert_176 (by decide) (fun h1 => ?_) (fun h1 => ?_)
  · refine lv_iconst (v := qf_b false) S.1 S.2.1 dX0_insert_190 (by decide) ?_
    have e1 : false = fo := by rw [hfo, h1]; rfl
    exact in_tail2 S hK hf hB hR hg hP hGb hS (fo := false) hqs haw hw hk hu hfr (fun H locs ls hP hS => kk H locs ls (by rw [← e1]; exact hP) hS) ls hl
  · refine lv_iload S.1 S.2.1 dX0_insert_179 (lv_at hl 7 rfl) ?_
    refine lv_iload S.1 S.2.1 dX0_insert_181 (lv_at hl 6 rfl) ?_
    refine qf_icmpeq (tgt := 190) S.1 S.2.1 (Nat.lt_trans (qf_bk_s hB _) (by decide)) (Nat.lt_trans (qf_bk_s hB _) (by decide)) dX0_insert_183 (by decide) (fun h2 => ?_) (fun h2 => ?_)
    · refine lv_iconst (v := qf_b false) S.1 S.2.1 dX0_insert_190 (by decide) ?_
      have e1 : false = fo := by rw [hfo, hxe.mp h2]; simp
      exact in_tail2 S hK hf hB hR hg hP hGb hS (fo := false) hqs haw hw hk hu hfr (fun H locs ls hP hS => kk H locs ls (by rw [← e1]; exact hP) hS) ls hl
    · refine lv_iconst (v := qf_b true) S.1 S.2.1 dX0_insert_186 (by decide) ?_
      refine lv_goto (tgt := 191) S.1 S.2.1 dX0_insert_187 (by decide) ?_
      have e1 : true = fo := by rw [hfo, h1, decide_eq_true (show x ≠ S0 from fun r => h2 (hxe.mpr r))]; rfl
      exact in_tail2 S hK hf hB hR hg hP hGb hS (fo := true) hqs haw hw hk hu hfr (fun H locs ls hP hS => kk H locs ls (by rw [← e1]; exact hP) hS) ls hl
end QIN
set_option maxHeartbeats 4000000 in
set_option maxRecDepth 100000 in
/-- insert: one more of the fingerprint y -/
theorem met_insert (l : Launch) (dC : Nat → ClassId) (dI : Nat → Nat → Nat) (dA : Nat → ClassId) (g : Nat → Nat) (F : Nat → qf_FS) (f : Nat) (G : qf_FS) (rc : Nat) (rd : Nat → Nat) (b y : Nat) (c : Nat → Nat) (hf : f < 2) (hg : qf_dj g) (hI : qf_inv b G c) (hp : y < 256) (hfull : qf_H G + 1 < 2 ^ b) : Met l yX0_insert (ws_ yX0_insert cX0_insert 10 none) ({ frames := 3, cells := 0, slots := 0, locals := 77 }) (qf_Pc g dA dC dI (va_up F f G, rc, rd) [.int (nI f), .int (nI y)]) (va_Qv (fun u => ∃ G1, u = (va_up F f G1, rc, rd) ∧ qf_inv b G1 (fun p => c p + if y = p then 1 else 0)) (qf_Bt g dA dC dI) (qf_A g)) 0 0 (qf_A g) := by
  refine qf_met (by decide) rfl (Nat.le_of_ble_eq_true rfl) ?_
  intro p e s m below meth c' ls S hr hlocks hP hK hl
  have hR : qf_RM ({ frames := 3, cells := 0, slots := 0, locals := 77 }) 3 77 := ⟨Nat.le_refl _, Nat.le_refl _⟩
  have hl : lv_has ls 10 [(0, .ref (g 0)), (1, .int (nI f)), (2, .int (nI y))] := hl
  obtain ⟨hB, hGb, -⟩ := id hI
  have hq : y / 2 ^ (8 - b) < 64 := Nat.lt_of_lt_of_le (qf_slot_lt hB hp) (qf_bk_64 hB).2
  have hwl : y % 2 ^ (8 - b) < 128 := Nat.lt_of_lt_of_le (qf_low_lt hB y) (Nat.le_trans (qf_bk_R hB).2 (by decide))
  have hH : qf_H G + 1 < 128 := Nat.lt_of_lt_of_le hfull (Nat.le_trans (qf_bk_64 hB).2 (by decide))
  have hS : va_S (qf_A g) s.heap s.heap [] := va_S.rf
  refine lv_aload_n S.1 S.2.1 dX0_insert_0 rfl (lv_at hl 0 rfl) ?_
  refine lv_iload_n S.1 S.2.1 dX0_insert_1 rfl (lv_at hl 1 rfl) ?_
  refine yc_base S hK hP (hR.le (by decide) (by decide)) hl.1 (Nat.le_of_ble_eq_true rfl) dX0_insert_2 ?_
  refine lv_istore_n (lv' := [(3, .int (nI (64 * f))), (0, .ref (g 0)), (1, .int (nI f)), (2, .int (nI y))]) S.1 S.2.1 dX0_insert_5 rfl hl (by decide) rfl (fun ls hl => ?_)
  refine lv_aload_n S.1 S.2.1 dX0_insert_6 rfl (lv_at hl 1 rfl) ?_
  refine lv_iload_n S.1 S.2.1 dX0_insert_7 rfl (lv_at hl 2 rfl) ?_
  refine lv_iload_n S.1 S.2.1 dX0_insert_8 rfl (lv_at hl 3 rfl) ?_
  refine yc_slotOf S hK hP hf hGb hB hp (hR.le (by decide) (by decide)) hl.1 (Nat.le_of_ble_eq_true rfl) dX0_insert_9 ?_
  refine lv_istore (lv' := [(4, .int (nI (y / 2 ^ (8 - b)))), (3, .int (nI (64 * f))), (0, .ref (g 0)), (1, .int (nI f)), (2, .int (nI y))]) S.1 S.2.1 dX0_insert_12 hl (by decide) rfl (fun ls hl => ?_)
  refine lv_aload_n S.1 S.2.1 dX0_insert_14 rfl (lv_at hl 2 rfl) ?_
  refine lv_iload_n S.1 S.2.1 dX0_insert_15 rfl (lv_at hl 3 rfl) ?_
  refine lv_iload_n S.1 S.2.1 dX0_insert_16 rfl (lv_at hl 4 rfl) ?_
  refine yc_lowerOf S hK hP hf hGb hB hp (hR.le (by decide) (by decide)) hl.1 (Nat.le_of_ble_eq_true rfl) dX0_insert_17 ?_
  refine lv_istore (lv' := [(5, .int (nI (y % 2 ^ (8 - b)))), (4, .int (nI (y / 2 ^ (8 - b)))), (3, .int (nI (64 * f))), (0, .ref (g 0)), (1, .int (nI f)), (2, .int (nI y))]) S.1 S.2.1 dX0_insert_20 hl (by decide) rfl (fun ls hl => ?_)
  refine lv_aload_n S.1 S.2.1 dX0_insert_22 rfl (lv_at hl 3 rfl) ?_
  refine xg_H S hK hP dX0_insert_23 ?_
  refine lv_iload_n S.1 S.2.1 dX0_insert_26 rfl (lv_at hl 4 rfl) ?_
  refine lv_dup2_11 S.1 S.2.1 dX0_insert_27 rfl rfl ?_
  refine yl_H S hK hP hf dX0_insert_28 ?_
  refine lv_iconst (v := nI 1) S.1 S.2.1 dX0_insert_29 (by decide) ?_
  refine lv_iadd S.1 S.2.1 dX0_insert_30 ?_
  refine qf_top (nI_add _ _) ?_
  refine lv_i2b (v := nI (qf_H G + 1)) S.1 S.2.1 dX0_insert_31 (qf_byte hH) ?_
  refine ys_H S hK hP hg hS rfl hH hf dX0_insert_32 (fun H locs hP hS => ?_)
  refine lv_aload_n S.1 S.2.1 dX0_insert_33 rfl (lv_at hl 3 rfl) ?_
  refine lv_iload_n S.1 S.2.1 dX0_insert_34 rfl (lv_at hl 4 rfl) ?_
  refine lv_iload S.1 S.2.1 dX0_insert_35 (lv_at hl 1 rfl) ?_
  refine yc_isFree S hK hP hf hq (hR.le (by decide) (by decide)) hl.1 (Nat.le_of_ble_eq_true rfl) dX0_insert_37 ?_
  refine qf_ifeq (tgt := 66) S.1 S.2.1 dX0_insert_40 (by decide) (fun h1 => ?_) (fun h1 => ?_)
  · have hused : qf_U G (y / 2 ^ (8 - b)) = true := by
      have h2 : (!(qf_U G (y / 2 ^ (8 - b)))) = false := h1
      simpa using h2
    obtain ⟨Qq, S0, E, hQ, hrs, t1, t2, t3, t4, t5, t6, t7⟩ := qf_inv_in1 hI hp hfull hused
    refine lv_aload_n S.1 S.2.1 dX0_insert_66 rfl (lv_at hl 3 rfl) ?_
    refine xg_N S hK hP dX0_insert_67 ?_
    refine lv_iload_n S.1 S.2.1 dX0_insert_70 rfl (lv_at hl 2 rfl) ?_
    refine lv_iload S.1 S.2.1 dX0_insert_71 (lv_at hl 1 rfl) ?_
    refine lv_iadd S.1 S.2.1 dX0_insert_73 ?_
    refine qf_top (nI_add _ _) ?_
    refine yl_N S hK hP rfl hf hq dX0_insert_74 ?_
    refine lv_istore (lv' := [(6, .int (qf_b (qf_N G (y / 2 ^ (8 - b))))), (5, .int (nI (y % 2 ^ (8 - b)))), (4, .int (nI (y / 2 ^ (8 - b)))), (3, .int (nI (64 * f))), (0, .ref (g 0)), (1, .int (nI f)), (2, .int (nI y))]) S.1 S.2.1 dX0_insert_75 hl (by decide) rfl (fun ls hl => ?_)
    refine lv_aload_n S.1 S.2.1 dX0_insert_77 rfl (lv_at hl 4 rfl) ?_
    refine xg_N S hK hP dX0_insert_78 ?_
    refine lv_iload_n S.1 S.2.1 dX0_insert_81 rfl (lv_at hl 3 rfl) ?_
    refine lv_iload S.1 S.2.1 dX0_insert_82 (lv_at hl 2 rfl) ?_
    refine lv_iadd S.1 S.2.1 dX0_insert_84 ?_
    refine qf_top (nI_add _ _) ?_
    refine lv_iconst (v := nI 1) S.1 S.2.1 dX0_insert_85 (by decide) ?_
    refine ys_N (v := true) S hK hP hg hS rfl (by decide) hf hq dX0_insert_86 (fun H locs hP hS => ?_)
    have hP : va_P (dC, dI) qf_cl (qf_w g dA (va_up F f (qf_g1 G (y / 2 ^ (8 - b))), rc, rd)) H := hP
    refine lv_aload_n S.1 S.2.1 dX0_insert_87 rfl (lv_at hl 4 rfl) ?_
    refine lv_iload_n S.1 S.2.1 dX0_insert_88 rfl (lv_at hl 5 rfl) ?_
    refine lv_iload S.1 S.2.1 dX0_insert_89 (lv_at hl 2 rfl) ?_
    refine qf_top (congrArg nI hQ.symm) ?_
    refine yc_runStart S hK hP hf hGb hB hrs (hR.le (by decide) (by decide)) hl.1 (Nat.le_of_ble_eq_true rfl) dX0_insert_91 ?_
    refine lv_istore (lv' := [(7, .int (nI (S0 % 2 ^ b))), (6, .int (qf_b (qf_N G (y / 2 ^ (8 - b))))), (5, .int (nI (y % 2 ^ (8 - b)))), (4, .int (nI (y / 2 ^ (8 - b)))), (3, .int (nI (64 * f))), (0, .ref (g 0)), (1, .int (nI f)), (2, .int (nI y))]) S.1 S.2.1 dX0_insert_94 hl (by decide) rfl (fun ls hl => ?_)
    refine lv_iload S.1 S.2.1 dX0_insert_96 (lv_at hl 0 rfl) ?_
    refine lv_istore (lv' := [(8, .int (nI (S0 % 2 ^ b))), (7, .int (nI (S0 % 2 ^ b))), (6, .int (qf_b (qf_N G (y / 2 ^ (8 - b))))), (5, .int (nI (y % 2 ^ (8 - b)))), (4, .int (nI (y / 2 ^ (8 - b)))), (3, .int (nI (64 * f))), (0, .ref (g 0)), (1, .int (nI f)), (2, .int (nI y))]) S.1 S.2.1 dX0_insert_98 hl (by decide) rfl (fun ls hl => ?_)
    refine lv_iload S.1 S.2.1 dX0_insert_100 (lv_at hl 2 rfl) ?_
    refine lv_istore (lv' := [(9, .int (qf_b (qf_N G (y / 2 ^ (8 - b))))), (8, .int (nI (S0 % 2 ^ b))), (7, .int (nI (S0 % 2 ^ b))), (6, .int (qf_b (qf_N G (y / 2 ^ (8 - b))))), (5, .int (nI (y % 2 ^ (8 - b)))), (4, .int (nI (y / 2 ^ (8 - b)))), (3, .int (nI (64 * f))), (0, .ref (g 0)), (1, .int (nI f)), (2, .int (nI y))]) S.1 S.2.1 dX0_insert_102 hl (by decide) rfl (fun ls hl => ?_)
    refine in_loop S hK hf hB hR hP hGb (w := y % 2 ^ (8 - b)) (E := E) (S0 := S0) (Nat.lt_trans hwl (by decide)) t5 t6 (fun x v ls x1 x2 hl => ?_) (E - S0) S0 _ (by omega) (Nat.le_refl _) (by cases hh : qf_N G (y / 2 ^ (8 - b)) with | true => exact (decide_eq_true (t3.mp hh)).symm | false => exact (decide_eq_false (fun r => by rw [t3.mpr r] at hh; cases hh)).symm) t4 ls (lv_sub hl [7, 8, 6, 5, 4, 3, 2, 1, 0] rfl)
    obtain ⟨k, k1, k2, k3, k4⟩ := t7 x x1 x2
    have hxe : x % 2 ^ b = S0 % 2 ^ b ↔ x = S0 := by
      constructor
      · intro r
        obtain ⟨j, hj⟩ := qf_mod_diff r.symm x1
        cases j with
        | zero => omega
        | succ j => rw [Nat.mul_succ] at hj; omega
      · intro r; rw [r]
    refine lv_iload S.1 S.2.1 dX0_insert_146 (lv_at hl 5 rfl) ?_
    refine qf_ifeq (tgt := 168) S.1 S.2.1 dX0_insert_148 (by decide) (fun h3 => ?_) (fun h3 => ?_)
    · have ez : (qf_N G (y / 2 ^ (8 - b)) && decide (x = S0)) = false := by rw [h3]; rfl
      rw [ez] at k2 k3 k4
      exact in_tail S hK hf hB hR hg (G := qf_g2 G (y / 2 ^ (8 - b)) (S0 % 2 ^ b) false) hP hGb hS hq hxe rfl rfl hwl k1 k2 k3 (fun H locs ls hP hS => W.vret S.1 S.2.1 hr (fun t ht hW => ⟨⟨_, rfl, ⟨_, rfl, k4⟩, by unfold qf_Bt; rw [ht]; exact hP⟩, hS.F ht⟩) hS.2.2 dX0_insert_206) ls (lv_sub hl [0, 1, 2, 3, 4, 5, 6, 7, 8] rfl)
    · refine lv_iload S.1 S.2.1 dX0_insert_151 (lv_at hl 7 rfl) ?_
      refine lv_iload S.1 S.2.1 dX0_insert_153 (lv_at hl 6 rfl) ?_
      refine qf_icmpne (tgt := 168) S.1 S.2.1 (Nat.lt_trans (qf_bk_s hB _) (by decide)) (Nat.lt_trans (qf_bk_s hB _) (by decide)) dX0_insert_155 (by decide) (fun h4 => ?_) (fun h4 => ?_)
      · have ez : (qf_N G (y / 2 ^ (8 - b)) && decide (x = S0)) = false := by rw [h3, decide_eq_false (fun r => h4 (hxe.mpr r))]; rfl
        rw [ez] at k2 k3 k4
        exact in_tail S hK hf hB hR hg (G := qf_g2 G (y / 2 ^ (8 - b)) (S0 % 2 ^ b) false) hP hGb hS hq hxe rfl rfl hwl k1 k2 k3 (fun H locs ls hP hS => W.vret S.1 S.2.1 hr (fun t ht hW => ⟨⟨_, rfl, ⟨_, rfl, k4⟩, by unfold qf_Bt; rw [ht]; exact hP⟩, hS.F ht⟩) hS.2.2 dX0_insert_206) ls (lv_sub hl [0, 1, 2, 3, 4, 5, 6, 7, 8] rfl)
      · refine lv_aload_n S.1 S.2.1 dX0_insert_158 rfl (lv_at hl 0 rfl) ?_
        refine xg_O S hK hP dX0_insert_159 ?_
        refine lv_iload_n S.1 S.2.1 dX0_insert_162 rfl (lv_at hl 2 rfl) ?_
        refine lv_iload S.1 S.2.1 dX0_insert_163 (lv_at hl 6 rfl) ?_
        refine lv_iadd S.1 S.2.1 dX0_insert_165 ?_
        refine qf_top (nI_add _ _) ?_
        refine lv_iconst (v := nI 1) S.1 S.2.1 dX0_insert_166 (by decide) ?_
        refine ys_O (v := true) S hK hP hg hS rfl (by decide) hf (qf_bk_s hB _) dX0_insert_167 (fun H locs hP hS => ?_)
        have ez : (qf_N G (y / 2 ^ (8 - b)) && decide (x = S0)) = true := by rw [h3, decide_eq_true (hxe.mp h4)]; rfl
        rw [ez] at k2 k3 k4
        exact in_tail S hK hf hB hR hg (G := qf_g2 G (y / 2 ^ (8 - b)) (S0 % 2 ^ b) true) hP hGb hS hq hxe rfl rfl hwl k1 k2 k3 (fun H locs ls hP hS => W.vret S.1 S.2.1 hr (fun t ht hW => ⟨⟨_, rfl, ⟨_, rfl, k4⟩, by unfold qf_Bt; rw [ht]; exact hP⟩, hS.F ht⟩) hS.2.2 dX0_insert_206) ls (lv_sub hl [0, 1, 2, 3, 4, 5, 6, 7, 8] rfl)
  · have hfree : qf_U G (y / 2 ^ (8 - b)) = false := by
      have h2 : (!(qf_U G (y / 2 ^ (8 - b)))) = true := h1
      simpa using h2
    refine lv_aload_n S.1 S.2.1 dX0_insert_43 rfl (lv_at hl 3 rfl) ?_
    refine xg_N S hK hP dX0_insert_44 ?_
    refine lv_iload_n S.1 S.2.1 dX0_insert_47 rfl (lv_at hl 2 rfl) ?_
    refine lv_iload S.1 S.2.1 dX0_insert_48 (lv_at hl 1 rfl) ?_
    refine lv_iadd S.1 S.2.1 dX0_insert_50 ?_
    refine qf_top (nI_add _ _) ?_
    refine lv_iconst (v := nI 1) S.1 S.2.1 dX0_insert_51 (by decide) ?_
    refine ys_N (v := true) S hK hP hg hS rfl (by decide) hf hq dX0_insert_52 (fun H locs hP hS => ?_)
    refine lv_aload_n S.1 S.2.1 dX0_insert_53 rfl (lv_at hl 3 rfl) ?_
    refine xg_L S hK hP dX0_insert_54 ?_
    refine lv_iload_n S.1 S.2.1 dX0_insert_57 rfl (lv_at hl 2 rfl) ?_
    refine lv_iload S.1 S.2.1 dX0_insert_58 (lv_at hl 1 rfl) ?_
    refine lv_iadd S.1 S.2.1 dX0_insert_60 ?_
    refine qf_top (nI_add _ _) ?_
    refine lv_iload S.1 S.2.1 dX0_insert_61 (lv_at hl 0 rfl) ?_
    refine lv_i2b (v := nI (y % 2 ^ (8 - b))) S.1 S.2.1 dX0_insert_63 (qf_byte hwl) ?_
    refine ys_L S hK hP hg hS rfl rfl hwl hf hq dX0_insert_64 (fun H locs hP hS => ?_)
    exact W.vret S.1 S.2.1 hr (fun t ht hW => ⟨⟨_, rfl, ⟨_, rfl, qf_inv_in0 hI hp hfull hfree⟩, by unfold qf_Bt; rw [ht]; exact hP⟩, hS.F ht⟩) hS.2.2 dX0_insert_65
section QIN2
variable {p : Program} {l : Launch} {e : Env} {R : Room} {s : State} {m : MethodId} {args : Array Value} {below : List Frame} {meth : Method} {c : Code} {H H0 : Heap} {locs : List Loc} {cells slots : Nat} {Q : State → Prop} {cc : ByteArray} {pc nL : Nat} {ls : Array Slot} {rest : List Value} {g : Nat → Nat} {dC : Nat → ClassId} {dI : Nat → Nat → Nat} {dA : Nat → ClassId} {F : Nat → qf_FS} {f b : Nat} {G : qf_FS} {rc : Nat} {rd : Nat → Nat} {u : qf_QS}
theorem yc_insert {y : Nat} {c' : Nat → Nat} (S : CallFix p m c cc nL s args lw_all RX0) (hK : va_K (dC, dI) qf_cl (qf_tys dA) s) (hP : va_P (dC, dI) qf_cl (qf_w g dA (va_up F f (G), rc, rd)) H) (hS : va_S (qf_A g) H0 H locs) (hg : qf_dj g) (hf : f < 2) (hI : qf_inv b G c') (hp : y < 256) (hfull : qf_H G + 1 < 2 ^ b) (hR : qf_RM R 4 (8 + (10 + 11) + 77)) (hsz : ls.size = nL) (hroom : (rest.map fun v => v.category).sum ≤ 8) (hdg : decode cc pc = .ok (.invokevirtual 44, 3)) (kk : ∀ (G1 : qf_FS) (H1 : Heap) (locs1 : List Loc), qf_inv b G1 (fun p => c' p + if y = p then 1 else 0) → va_P (dC, dI) qf_cl (qf_w g dA (va_up F f (G1), rc, rd)) H1 → va_S (qf_A g) H0 H1 locs1 → W p l e R s m args below meth c H1 locs1 0 0 Q (F0 m (pc + 3) ls rest)) : W p l e R s m args below meth c H locs 0 0 Q (F0 m pc ls (.int (nI y) :: .int (nI f) :: .ref (g 0) :: rest)) :=
  qf_callv S hK hP hS (fun _ h => h) (met_insert l dC dI dA g F f G rc rd b y c' hf hg hI hp hfull) (lw_V q76 q78 qs2 q21 q79) rfl rfl (by decide +kernel) hR (n := 2) rfl hsz hroom hdg ⟨Nat.zero_le _, Nat.zero_le _⟩ (As := [.int (nI f), .int (nI y)]) rfl (fun u1 H1 locs1 h1 h2 h3 _ _ => by
    obtain ⟨G1, e1, h4⟩ := h1
    exact kk G1 H1 locs1 h4 (by rw [← e1]; exact h2) h3)
end QIN2
end
section
/-! what the invariant says of sums; an empty filter; what a reading of a stretch needs -/
theorem qf_inv_sum {b : Nat} {G : qf_FS} {c : Nat → Nat} (h : qf_inv b G c) : qf_sm c 256 = qf_H G := by
  obtain ⟨hb, -, hH, D, I⟩ := h
  obtain ⟨hR, -, hL, hct, hc⟩ := I
  rw [qf_sm_eq (f' := fun p => qf_ct (fun x => qf_pe (2 ^ b) (qf_U G) x && (qf_PR (2 ^ b) (2 ^ (8 - b)) D (qf_pe (2 ^ b) (qf_L G)) x == p)) 0 (2 ^ b)) (fun p _ => hc p), qf_sm_ct, ← hct]
  refine qf_ct_sh (fun i hi => ?_)
  show (qf_pe (2 ^ b) (qf_U G) (0 + i) && decide (qf_PR (2 ^ b) (2 ^ (8 - b)) D (qf_pe (2 ^ b) (qf_L G)) (0 + i) < 256)) = qf_pe (2 ^ b) (qf_U G) (0 + i)
  cases hu : qf_pe (2 ^ b) (qf_U G) (0 + i) with
  | false => rfl
  | true =>
    rw [Bool.true_and]
    exact decide_eq_true (qf_pr_lt hb (Nat.mod_lt _ (qf_bk_pos hb)) (hL _ hu))
theorem qf_inv_lt {b : Nat} {G : qf_FS} {c : Nat → Nat} (h : qf_inv b G c) : qf_H G < 64 := Nat.lt_of_lt_of_le h.2.2.1 (qf_bk_64 h.1).2
theorem qf_sm_up (c : Nat → Nat) (y n : Nat) (hy : y < n) : qf_sm (fun p => c p + if y = p then 1 else 0) n = qf_sm c n + 1 := by
  rw [qf_sm_add c (fun p => if y = p then 1 else 0), qf_sm_one, if_pos hy]
theorem qf_inv_H {b b' : Nat} {G G1 : qf_FS} {c : Nat → Nat} {y : Nat} (h : qf_inv b G c) (hy : y < 256) (h1 : qf_inv b' G1 (fun p => c p + if y = p then 1 else 0)) : qf_H G1 = qf_H G + 1 := by
  have a := qf_inv_sum h
  have a1 := qf_inv_sum h1
  rw [qf_sm_up c y 256 hy] at a1
  omega
theorem qf_inv_of {b : Nat} {G : qf_FS} {c c' : Nat → Nat} (h : qf_inv b G c) (e : ∀ p, c p = c' p) : qf_inv b G c' := by
  have : c = c' := funext e
  rw [← this]; exact h
theorem qf_inv_empty {b : Nat} {G : qf_FS} (hb : qf_bk b) (hB : qf_B G = b) (hH : qf_H G = 0) (hm : ∀ x, x < 64 → qf_N G x = false ∧ qf_O G x = false ∧ qf_P G x = false) : qf_inv b G (fun _ => 0) := by
  have hs : ∀ x, x % 2 ^ b < 64 := fun x => qf_bk_s hb x
  have u0 : ∀ x, qf_pe (2 ^ b) (qf_U G) x = false := fun x => by
    obtain ⟨a1, a2, a3⟩ := hm _ (hs x)
    show qf_U G (x % 2 ^ b) = false
    unfold qf_U
    rw [a1, a2, a3]; rfl
  have n0 : ∀ x, qf_pe (2 ^ b) (qf_N G) x = false := fun x => (hm _ (hs x)).1
  refine ⟨hb, hB, by rw [hH]; exact qf_bk_pos hb, fun _ => 0, ⟨⟨?_, ?_, ?_, ?_, ?_, fun x => rfl⟩, ⟨fun x => qf_pe_per _ _ x, fun x => qf_pe_per _ _ x, fun x => qf_pe_per _ _ x, fun x => qf_pe_per _ _ x, fun _ => rfl, fun x => qf_pe_per _ _ x⟩, ?_, ?_, ?_⟩⟩
  · intro x hu; rw [u0] at hu; cases hu
  · intro x hu; rw [u0] at hu; cases hu
  · intro x hu; rw [u0] at hu; cases hu
  · intro x hu; rw [u0] at hu; cases hu
  · intro x hu; rw [n0] at hu; cases hu
  · intro x hu; rw [u0] at hu; cases hu
  · rw [hH]; exact qf_ct_0 (fun i _ => u0 _)
  · intro p
    exact (qf_ct_0 (fun i _ => by show (qf_pe (2 ^ b) (qf_U G) _ && _) = false; rw [u0]; rfl)).symm
/-- whose runs a reading from a to e finds -/
def qf_RD (Nm Go Pu : Nat → Bool) (ow : Nat → Nat) (N a e : Nat) : Prop := ∀ t, a ≤ t → t < e → (Pu t = false → ow t % N = t % N) ∧ (Pu t = true → a < t) ∧ (Pu t = true → Go t = true → ow t = ow (t - 1)) ∧ (Pu t = true → Go t = false → ow (t - 1) < ow t ∧ (∀ y, ow (t - 1) < y → y < ow t → Nm y = false) ∧ Nm (ow t) = true)
theorem qf_RD_of {U Nm Go Pu : Nat → Bool} {D : Nat → Nat} {N z a e : Nat} (hR : qf_RI U Nm Go Pu D) (hz : U z = false) (ha : z < a) (ha1 : U (a - 1) = false) (hu : ∀ t, a ≤ t → t < e → U t = true) : qf_RD Nm Go Pu (fun t => t - D t) N a e := by
  intro t t1 t2
  obtain ⟨c1, c2, c3, c4⟩ := qf_rdo hR hz (t := t) (by omega) (hu t t1 t2)
  refine ⟨fun r => ?_, fun r => ?_, c3, c4⟩
  · show (t - D t) % N = t % N
    rw [c1 r, Nat.sub_zero]
  · rcases Nat.eq_or_lt_of_le t1 with q | q
    · have := (c2 r).2
      rw [← q, ha1] at this; cases this
    · exact q
end
section
/-! free and empty -/
def qf_fr (G : qf_FS) (x : Nat) : qf_FS := qf_setP (qf_setO (qf_setN G x false) x false) x false
set_option maxHeartbeats 4000000 in
set_option maxRecDepth 100000 in
/-- free: the slot's marks go -/
theorem met_free (l : Launch) (dC : Nat → ClassId) (dI : Nat → Nat → Nat) (dA : Nat → ClassId) (g : Nat → Nat) (F : Nat → qf_FS) (f : Nat) (G : qf_FS) (rc : Nat) (rd : Nat → Nat) (x : Nat) (hf : f < 2) (hg : qf_dj g) (hx : x < 64) : Met l yX0_free (ws_ yX0_free cX0_free 4 none) ({ frames := 1, cells := 0, slots := 0, locals := 21 }) (qf_Pc g dA dC dI (va_up F f G, rc, rd) [.int (nI f), .int (nI x)]) (va_Qv (fun u => u = (va_up F f (qf_fr G x), rc, rd)) (qf_Bt g dA dC dI) (qf_A g)) 0 0 (qf_A g) := by
  refine qf_met (by decide) rfl (Nat.le_of_ble_eq_true rfl) ?_
  intro p e s m below meth c ls S hr hlocks hP hK hl
  have hR : qf_RM ({ frames := 1, cells := 0, slots := 0, locals := 21 }) 1 21 := ⟨Nat.le_refl _, Nat.le_refl _⟩
  have hl : lv_has ls 4 [(0, .ref (g 0)), (1, .int (nI f)), (2, .int (nI x))] := hl
  have hS : va_S (qf_A g) s.heap s.heap [] := va_S.rf
  refine lv_aload_n S.1 S.2.1 dX0_free_0 rfl (lv_at hl 0 rfl) ?_
  refine lv_iload_n S.1 S.2.1 dX0_free_1 rfl (lv_at hl 1 rfl) ?_
  refine yc_base S hK hP (hR.le (by decide) (by decide)) hl.1 (Nat.le_of_ble_eq_true rfl) dX0_free_2 ?_
  refine lv_iload_n S.1 S.2.1 dX0_free_5 rfl (lv_at hl 2 rfl) ?_
  refine lv_iadd S.1 S.2.1 dX0_free_6 ?_
  refine qf_top (nI_add _ _) ?_
  refine lv_istore_n (lv' := [(3, .int (nI (64 * f + x))), (0, .ref (g 0)), (1, .int (nI f)), (2, .int (nI x))]) S.1 S.2.1 dX0_free_7 rfl hl (by decide) rfl (fun ls hl => ?_)
  refine lv_aload_n S.1 S.2.1 dX0_free_8 rfl (lv_at hl 1 rfl) ?_
  refine xg_N S hK hP dX0_free_9 ?_
  refine lv_iload_n S.1 S.2.1 dX0_free_12 rfl (lv_at hl 0 rfl) ?_
  refine lv_iconst (v := nI 0) S.1 S.2.1 dX0_free_13 (by decide) ?_
  refine ys_N (v := false) S hK hP hg hS rfl (by decide) hf hx dX0_free_14 (fun H locs hP hS => ?_)
  refine lv_aload_n S.1 S.2.1 dX0_free_15 rfl (lv_at hl 1 rfl) ?_
  refine xg_O S hK hP dX0_free_16 ?_
  refine lv_iload_n S.1 S.2.1 dX0_free_19 rfl (lv_at hl 0 rfl) ?_
  refine lv_iconst (v := nI 0) S.1 S.2.1 dX0_free_20 (by decide) ?_
  refine ys_O (v := false) S hK hP hg hS rfl (by decide) hf hx dX0_free_21 (fun H locs hP hS => ?_)
  refine lv_aload_n S.1 S.2.1 dX0_free_22 rfl (lv_at hl 1 rfl) ?_
  refine xg_P S hK hP dX0_free_23 ?_
  refine lv_iload_n S.1 S.2.1 dX0_free_26 rfl (lv_at hl 0 rfl) ?_
  refine lv_iconst (v := nI 0) S.1 S.2.1 dX0_free_27 (by decide) ?_
  refine ys_P (v := false) S hK hP hg hS rfl (by decide) hf hx dX0_free_28 (fun H locs hP hS => ?_)
  exact W.vret S.1 S.2.1 hr (fun t ht hW => ⟨⟨_, rfl, rfl, by unfold qf_Bt; rw [ht]; exact hP⟩, hS.F ht⟩) hS.2.2 dX0_free_29
section QFE
variable {p : Program} {l : Launch} {e : Env} {R : Room} {s : State} {m : MethodId} {args : Array Value} {below : List Frame} {meth : Method} {c : Code} {H H0 : Heap} {locs : List Loc} {cells slots : Nat} {Q : State → Prop} {cc : ByteArray} {pc nL : Nat} {ls : Array Slot} {rest : List Value} {g : Nat → Nat} {dC : Nat → ClassId} {dI : Nat → Nat → Nat} {dA : Nat → ClassId} {F : Nat → qf_FS} {f b : Nat} {G : qf_FS} {rc : Nat} {rd : Nat → Nat} {u : qf_QS}
theorem yc_free {x : Nat} (S : CallFix p m c cc nL s args lw_all RX0) (hK : va_K (dC, dI) qf_cl (qf_tys dA) s) (hP : va_P (dC, dI) qf_cl (qf_w g dA (va_up F f (G), rc, rd)) H) (hS : va_S (qf_A g) H0 H locs) (hg : qf_dj g) (hf : f < 2) (hx : x < 64) (hR : qf_RM R 2 (8 + (4 + 11) + 21)) (hsz : ls.size = nL) (hroom : (rest.map fun v => v.category).sum ≤ 8) (hdg : decode cc pc = .ok (.invokevirtual 77, 3)) (kk : ∀ (H1 : Heap) (locs1 : List Loc), va_P (dC, dI) qf_cl (qf_w g dA (va_up F f (qf_fr G x), rc, rd)) H1 → va_S (qf_A g) H0 H1 locs1 → W p l e R s m args below meth c H1 locs1 0 0 Q (F0 m (pc + 3) ls rest)) : W p l e R s m args below meth c H locs 0 0 Q (F0 m pc ls (.int (nI x) :: .int (nI f) :: .ref (g 0) :: rest)) :=
  qf_callv S hK hP hS (fun _ h => h) (met_free l dC dI dA g F f G rc rd x hf hg hx) (lw_V q132 q134 qs15 q21 q135) rfl rfl (by decide +kernel) hR (n := 2) rfl hsz hroom hdg ⟨Nat.zero_le _, Nat.zero_le _⟩ (As := [.int (nI f), .int (nI x)]) rfl (fun u1 H1 locs1 h1 h2 h3 _ _ => kk H1 locs1 (by rw [← h1]; exact h2) h3)
theorem qf_fr_s {G : qf_FS} {x : Nat} : qf_N (qf_fr G x) x = false ∧ qf_O (qf_fr G x) x = false ∧ qf_P (qf_fr G x) x = false := ⟨qf_up_s _ _ _, qf_up_s _ _ _, qf_up_s _ _ _⟩
theorem qf_fr_n {G : qf_FS} {x t : Nat} (h : t ≠ x) : qf_N (qf_fr G x) t = qf_N G t ∧ qf_O (qf_fr G x) t = qf_O G t ∧ qf_P (qf_fr G x) t = qf_P G t := ⟨qf_up_n _ _ h, qf_up_n _ _ h, qf_up_n _ _ h⟩
set_option maxHeartbeats 4000000 in
set_option maxRecDepth 100000 in
theorem em_loop (S : CallFix p m c cX0_empty 3 s args lw_all RX0) (hK : va_K (dC, dI) qf_cl (qf_tys dA) s) (hf : f < 2) (hR : qf_RM R 2 44) (hg : qf_dj g) (kk : ∀ (G : qf_FS) (H : Heap) (locs : List Loc) (ls : Array Slot), qf_B G = b → qf_H G = 0 → (∀ x, x < 64 → qf_N G x = false ∧ qf_O G x = false ∧ qf_P G x = false) → va_P (dC, dI) qf_cl (qf_w g dA (va_up F f (G), rc, rd)) H → va_S (qf_A g) H0 H locs → W p l e R s m args below meth c H locs 0 0 Q (F0 m 27 ls [])) :
    ∀ (n i : Nat) (G : qf_FS) (H : Heap) (locs : List Loc), 64 = i + n → qf_B G = b → qf_H G = 0 → (∀ x, x < i → qf_N G x = false ∧ qf_O G x = false ∧ qf_P G x = false) → va_P (dC, dI) qf_cl (qf_w g dA (va_up F f (G), rc, rd)) H → va_S (qf_A g) H0 H locs → ∀ ls, lv_has ls 3 [(0, .ref (g 0)), (1, .int (nI f)), (2, .int (nI i))] → W p l e R s m args below meth c H locs 0 0 Q (F0 m 9 ls []) := by
  intro n
  induction n using Nat.strongRecOn with
  | ind n ih =>
    intro i G H locs hi hb1 hh1 hm hP hS ls hl
    refine lv_iload_n S.1 S.2.1 dX0_empty_9 rfl (lv_at hl 2 rfl) ?_
    refine lv_bipush (v := nI 64) S.1 S.2.1 dX0_empty_10 (by decide) ?_
    refine qf_icmpge (tgt := 27) S.1 S.2.1 (by omega) (by decide) dX0_empty_12 (by decide) (fun h1 => ?_) (fun h1 => ?_)
    · exact kk G H locs ls hb1 hh1 (fun x hx => hm x (by omega)) hP hS
    · refine lv_aload_n S.1 S.2.1 dX0_empty_15 rfl (lv_at hl 0 rfl) ?_
      refine lv_iload_n S.1 S.2.1 dX0_empty_16 rfl (lv_at hl 1 rfl) ?_
      refine lv_iload_n S.1 S.2.1 dX0_empty_17 rfl (lv_at hl 2 rfl) ?_
      refine yc_free S hK hP hS hg hf h1 (hR.le (by decide) (by decide)) hl.1 (Nat.le_of_ble_eq_true rfl) dX0_empty_18 (fun H locs hP hS => ?_)
      refine lv_iinc (v := nI (i + 1)) (lv' := [(2, .int (nI (i + 1))), (0, .ref (g 0)), (1, .int (nI f))]) S.1 S.2.1 dX0_empty_21 hl (k := 2) rfl (nI_1 _) (by decide) rfl (fun ls hl => ?_)
      refine lv_goto (tgt := 9) S.1 S.2.1 dX0_empty_24 (by decide) ?_
      exact ih (n - 1) (by omega) (i + 1) (qf_fr G i) H locs (by omega) hb1 hh1 (fun x hx => by
        by_cases e1 : x = i
        · rw [e1]; exact qf_fr_s
        · obtain ⟨q1, q2, q3⟩ := qf_fr_n (G := G) e1
          rw [q1, q2, q3]
          exact hm x (by omega)) hP hS ls (lv_sub hl [1, 2, 0] rfl)
end QFE
set_option maxHeartbeats 4000000 in
set_option maxRecDepth 100000 in
/-- empty: nothing is held, no mark is left -/
theorem met_empty (l : Launch) (dC : Nat → ClassId) (dI : Nat → Nat → Nat) (dA : Nat → ClassId) (g : Nat → Nat) (F : Nat → qf_FS) (f : Nat) (G : qf_FS) (rc : Nat) (rd : Nat → Nat) (hf : f < 2) (hg : qf_dj g) : Met l yX0_empty (ws_ yX0_empty cX0_empty 3 none) ({ frames := 2, cells := 0, slots := 0, locals := 44 }) (qf_Pc g dA dC dI (va_up F f G, rc, rd) [.int (nI f)]) (va_Qv (fun u => ∃ G1, u = (va_up F f G1, rc, rd) ∧ qf_B G1 = qf_B G ∧ qf_H G1 = 0 ∧ ∀ x, x < 64 → qf_N G1 x = false ∧ qf_O G1 x = false ∧ qf_P G1 x = false) (qf_Bt g dA dC dI) (qf_A g)) 0 0 (qf_A g) := by
  refine qf_met (by decide) rfl (Nat.le_of_ble_eq_true rfl) ?_
  intro p e s m below meth c ls S hr hlocks hP hK hl
  have hR : qf_RM ({ frames := 2, cells := 0, slots := 0, locals := 44 }) 2 44 := ⟨Nat.le_refl _, Nat.le_refl _⟩
  have hl : lv_has ls 3 [(0, .ref (g 0)), (1, .int (nI f))] := hl
  have hS : va_S (qf_A g) s.heap s.heap [] := va_S.rf
  refine lv_aload_n S.1 S.2.1 dX0_empty_0 rfl (lv_at hl 0 rfl) ?_
  refine xg_H S hK hP dX0_empty_1 ?_
  refine lv_iload_n S.1 S.2.1 dX0_empty_4 rfl (lv_at hl 1 rfl) ?_
  refine lv_iconst (v := nI 0) S.1 S.2.1 dX0_empty_5 (by decide) ?_
  refine ys_H S hK hP hg hS rfl (by decide) hf dX0_empty_6 (fun H locs hP hS => ?_)
  refine lv_iconst (v := nI 0) S.1 S.2.1 dX0_empty_7 (by decide) ?_
  refine lv_istore_n (lv' := [(2, .int (nI 0)), (0, .ref (g 0)), (1, .int (nI f))]) S.1 S.2.1 dX0_empty_8 rfl hl (by decide) rfl (fun ls hl => ?_)
  refine em_loop S hK hf hR hg (H0 := s.heap) (b := qf_B G) (fun G1 H locs ls h1 h2 h3 hP hS => ?_) 64 0 (qf_setH G 0) H locs rfl rfl rfl (fun x hx => absurd hx (Nat.not_lt_zero _)) hP hS ls (lv_sub hl [1, 2, 0] rfl)
  exact W.vret S.1 S.2.1 hr (fun t ht hW => ⟨⟨_, rfl, ⟨G1, rfl, h1, h2, h3⟩, by unfold qf_Bt; rw [ht]; exact hP⟩, hS.F ht⟩) hS.2.2 dX0_empty_27
section QFE2
variable {p : Program} {l : Launch} {e : Env} {R : Room} {s : State} {m : MethodId} {args : Array Value} {below : List Frame} {meth : Method} {c : Code} {H H0 : Heap} {locs : List Loc} {cells slots : Nat} {Q : State → Prop} {cc : ByteArray} {pc nL : Nat} {ls : Array Slot} {rest : List Value} {g : Nat → Nat} {dC : Nat → ClassId} {dI : Nat → Nat → Nat} {dA : Nat → ClassId} {F : Nat → qf_FS} {f b : Nat} {G : qf_FS} {rc : Nat} {rd : Nat → Nat} {u : qf_QS}
theorem yc_empty (S : CallFix p m c cc nL s args lw_all RX0) (hK : va_K (dC, dI) qf_cl (qf_tys dA) s) (hP : va_P (dC, dI) qf_cl (qf_w g dA (va_up F f (G), rc, rd)) H) (hS : va_S (qf_A g) H0 H locs) (hg : qf_dj g) (hf : f < 2) (hR : qf_RM R 3 (8 + (3 + 11) + 44)) (hsz : ls.size = nL) (hroom : (rest.map fun v => v.category).sum ≤ 8) (hdg : decode cc pc = .ok (.invokevirtual 66, 3)) (kk : ∀ (G1 : qf_FS) (H1 : Heap) (locs1 : List Loc), qf_B G1 = qf_B G → qf_H G1 = 0 → (∀ x, x < 64 → qf_N G1 x = false ∧ qf_O G1 x = false ∧ qf_P G1 x = false) → va_P (dC, dI) qf_cl (qf_w g dA (va_up F f (G1), rc, rd)) H1 → va_S (qf_A g) H0 H1 locs1 → W p l e R s m args below meth c H1 locs1 0 0 Q (F0 m (pc + 3) ls rest)) : W p l e R s m args below meth c H locs 0 0 Q (F0 m pc ls (.int (nI f) :: .ref (g 0) :: rest)) :=
  qf_callv S hK hP hS (fun _ h => h) (met_empty l dC dI dA g F f G rc rd hf hg) (lw_V q168 q170 qs18 q21 q171) rfl rfl (by decide +kernel) hR (n := 1) rfl hsz hroom hdg ⟨Nat.zero_le _, Nat.zero_le _⟩ (As := [.int (nI f)]) rfl (fun u1 H1 locs1 h1 h2 h3 _ _ => by
    obtain ⟨G1, e1, a1, a2, a3⟩ := h1
    exact kk G1 H1 locs1 a1 a2 a3 (by rw [← e1]; exact h2) h3)
end QFE2
end
section
/-! readStretch -/
section QRD
variable {p : Program} {l : Launch} {e : Env} {R : Room} {s : State} {m : MethodId} {args : Array Value} {below : List Frame} {meth : Method} {c : Code} {H H0 : Heap} {locs : List Loc} {cells slots : Nat} {Q : State → Prop} {cc : ByteArray} {pc nL : Nat} {ls : Array Slot} {rest : List Value} {g : Nat → Nat} {dC : Nat → ClassId} {dI : Nat → Nat → Nat} {dA : Nat → ClassId} {F : Nat → qf_FS} {f b : Nat} {G : qf_FS} {rc : Nat} {rd : Nat → Nat} {u : qf_QS}
set_option maxHeartbeats 4000000 in
set_option maxRecDepth 100000 in
theorem rd_loop1 (S : CallFix p m c cX0_readStretch 7 s args lw_all RX0) (hK : va_K (dC, dI) qf_cl (qf_tys dA) s) (hf : f < 2) (hB : qf_bk b) (hR : qf_RM R 3 66) (hP : va_P (dC, dI) qf_cl (qf_w g dA (va_up F f G, rc, rd)) H) (hGb : qf_B G = b) {q5 : Int32} {y : Nat} (hy : qf_N G (y % 2 ^ b) = true) (kk : ∀ ls, lv_has ls 7 [(0, .ref (g 0)), (1, .int (nI f)), (4, .int (nI (64 * f))), (5, .int q5), (6, .int (nI (y % 2 ^ b)))] → W p l e R s m args below meth c H locs 0 0 Q (F0 m 95 ls [])) :
    ∀ (n x : Nat), y = x + n → (∀ t, x ≤ t → t < y → qf_N G (t % 2 ^ b) = false) → ∀ ls, lv_has ls 7 [(0, .ref (g 0)), (1, .int (nI f)), (4, .int (nI (64 * f))), (5, .int q5), (6, .int (nI (x % 2 ^ b)))] → W p l e R s m args below meth c H locs 0 0 Q (F0 m 70 ls []) := by
  intro n
  induction n using Nat.strongRecOn with
  | ind n ih =>
    intro x hx hal ls hl
    refine lv_aload_n S.1 S.2.1 dX0_readStretch_70 rfl (lv_at hl 0 rfl) ?_
    refine xg_N S hK hP dX0_readStretch_71 ?_
    refine lv_iload S.1 S.2.1 dX0_readStretch_74 (lv_at hl 2 rfl) ?_
    refine lv_iload S.1 S.2.1 dX0_readStretch_76 (lv_at hl 4 rfl) ?_
    refine lv_iadd S.1 S.2.1 dX0_readStretch_78 ?_
    refine qf_top (nI_add _ _) ?_
    refine yl_N S hK hP rfl hf (qf_bk_s hB _) dX0_readStretch_79 ?_
    refine qf_ifne (tgt := 95) S.1 S.2.1 dX0_readStretch_80 (by decide) (fun h1 => ?_) (fun h1 => ?_)
    · have e1 : x = y := by
        rcases Nat.eq_zero_or_pos n with q | q
        · omega
        · have := hal x (Nat.le_refl _) (by omega)
          rw [h1] at this; cases this
      rw [e1] at hl
      exact kk ls hl
    · have hn : n ≠ 0 := fun q => by
        have e1 : x = y := by omega
        rw [e1, hy] at h1; cases h1
      refine lv_aload_n S.1 S.2.1 dX0_readStretch_83 rfl (lv_at hl 0 rfl) ?_
      refine lv_iload_n S.1 S.2.1 dX0_readStretch_84 rfl (lv_at hl 1 rfl) ?_
      refine lv_iload S.1 S.2.1 dX0_readStretch_85 (lv_at hl 4 rfl) ?_
      refine yc_after (x := x) S hK hP hf hGb hB (hR.le (by decide) (by decide)) hl.1 (Nat.le_of_ble_eq_true rfl) dX0_readStretch_87 ?_
      refine lv_istore (lv' := [(6, .int (nI ((x + 1) % 2 ^ b))), (0, .ref (g 0)), (1, .int (nI f)), (4, .int (nI (64 * f))), (5, .int q5)]) S.1 S.2.1 dX0_readStretch_90 hl (by decide) rfl (fun ls hl => ?_)
      refine lv_goto (tgt := 70) S.1 S.2.1 dX0_readStretch_92 (by decide) ?_
      exact ih (n - 1) (by omega) (x + 1) (by omega) (fun t t1 t2 => hal t (by omega) t2) ls (lv_sub hl [1, 2, 3, 4, 0] rfl)
set_option maxHeartbeats 4000000 in
set_option maxRecDepth 100000 in
theorem rd_put (S : CallFix p m c cX0_readStretch 7 s args lw_all RX0) (hK : va_K (dC, dI) qf_cl (qf_tys dA) s) (hf : f < 2) (hB : qf_bk b) (hR : qf_RM R 3 66) (hg : qf_dj g) (hP : va_P (dC, dI) qf_cl (qf_w g dA (va_up F f G, rc, rd)) H) (hGb : qf_B G = b) (hS : va_S (qf_A g) H0 H locs) {t o : Nat} (hrc : rc < 64) (hL : qf_L G (t % 2 ^ b) < 2 ^ (8 - b)) (kk : ∀ (H : Heap) (locs : List Loc) (ls : Array Slot), va_P (dC, dI) qf_cl (qf_w g dA (va_up F f G, rc + 1, va_up rd rc (o % 2 ^ b * 2 ^ (8 - b) + qf_L G (t % 2 ^ b)))) H → va_S (qf_A g) H0 H locs → lv_has ls 7 [(0, .ref (g 0)), (1, .int (nI f)), (4, .int (nI (64 * f))), (5, .int (nI ((t + 1) % 2 ^ b))), (6, .int (nI (o % 2 ^ b)))] → W p l e R s m args below meth c H locs 0 0 Q (F0 m 18 ls [])) (ls : Array Slot) (hl : lv_has ls 7 [(0, .ref (g 0)), (1, .int (nI f)), (4, .int (nI (64 * f))), (5, .int (nI (t % 2 ^ b))), (6, .int (nI (o % 2 ^ b)))]) : W p l e R s m args below meth c H locs 0 0 Q (F0 m 95 ls []) := by
  refine lv_aload_n S.1 S.2.1 dX0_readStretch_95 rfl (lv_at hl 0 rfl) ?_
  refine xg_D S hK hP dX0_readStretch_96 ?_
  refine lv_aload_n S.1 S.2.1 dX0_readStretch_99 rfl (lv_at hl 0 rfl) ?_
  refine xg_C S hK hP dX0_readStretch_100 ?_
  refine qf_top (y := nI rc) rfl ?_
  refine lv_iload S.1 S.2.1 dX0_readStretch_103 (lv_at hl 4 rfl) ?_
  refine lv_bipush (v := nI 8) S.1 S.2.1 dX0_readStretch_105 (by decide) ?_
  refine lv_aload_n S.1 S.2.1 dX0_readStretch_107 rfl (lv_at hl 0 rfl) ?_
  refine xg_B S hK hP dX0_readStretch_108 ?_
  refine lv_iload_n S.1 S.2.1 dX0_readStretch_111 rfl (lv_at hl 1 rfl) ?_
  refine yl_B S hK hP hf dX0_readStretch_112 ?_
  refine qf_top (congrArg nI hGb) ?_
  refine lv_isub S.1 S.2.1 dX0_readStretch_113 ?_
  refine lv_ishl S.1 S.2.1 dX0_readStretch_114 ?_
  refine lv_aload_n S.1 S.2.1 dX0_readStretch_115 rfl (lv_at hl 0 rfl) ?_
  refine xg_L S hK hP dX0_readStretch_116 ?_
  refine lv_iload S.1 S.2.1 dX0_readStretch_119 (lv_at hl 2 rfl) ?_
  refine lv_iload S.1 S.2.1 dX0_readStretch_121 (lv_at hl 3 rfl) ?_
  refine lv_iadd S.1 S.2.1 dX0_readStretch_123 ?_
  refine qf_top (nI_add _ _) ?_
  refine yl_L S hK hP rfl hf (qf_bk_s hB _) dX0_readStretch_124 ?_
  refine lv_ior S.1 S.2.1 dX0_readStretch_125 ?_
  refine lv_i2s (v := nI (o % 2 ^ b * 2 ^ (8 - b) + qf_L G (t % 2 ^ b))) S.1 S.2.1 dX0_readStretch_126 (qn_print hB (Nat.mod_lt _ (qf_bk_pos hB)) hL) ?_
  refine xs_D S hK hP hg hS rfl (qf_pr_lt hB (Nat.mod_lt _ (qf_bk_pos hB)) hL) hrc dX0_readStretch_127 (fun H locs hP hS => ?_)
  have hP : va_P (dC, dI) qf_cl (qf_w g dA (va_up F f G, rc, va_up rd rc (o % 2 ^ b * 2 ^ (8 - b) + qf_L G (t % 2 ^ b)))) H := hP
  refine lv_aload_n S.1 S.2.1 dX0_readStretch_128 rfl (lv_at hl 0 rfl) ?_
  refine lv_dup S.1 S.2.1 dX0_readStretch_129 rfl ?_
  refine xg_C S hK hP dX0_readStretch_130 ?_
  refine qf_top (y := nI rc) rfl ?_
  refine lv_iconst (v := nI 1) S.1 S.2.1 dX0_readStretch_133 (by decide) ?_
  refine lv_iadd S.1 S.2.1 dX0_readStretch_134 ?_
  refine qf_top (nI_add _ _) ?_
  refine xs_C (v := rc + 1) S hK hP hg hS rfl dX0_readStretch_135 (fun H locs hP hS => ?_)
  have hP : va_P (dC, dI) qf_cl (qf_w g dA (va_up F f G, rc + 1, va_up rd rc (o % 2 ^ b * 2 ^ (8 - b) + qf_L G (t % 2 ^ b)))) H := hP
  refine lv_aload_n S.1 S.2.1 dX0_readStretch_138 rfl (lv_at hl 0 rfl) ?_
  refine lv_iload_n S.1 S.2.1 dX0_readStretch_139 rfl (lv_at hl 1 rfl) ?_
  refine lv_iload S.1 S.2.1 dX0_readStretch_140 (lv_at hl 3 rfl) ?_
  refine yc_after (x := t) S hK hP hf hGb hB (hR.le (by decide) (by decide)) hl.1 (Nat.le_of_ble_eq_true rfl) dX0_readStretch_142 ?_
  refine lv_istore (lv' := [(5, .int (nI ((t + 1) % 2 ^ b))), (0, .ref (g 0)), (1, .int (nI f)), (4, .int (nI (64 * f))), (6, .int (nI (o % 2 ^ b)))]) S.1 S.2.1 dX0_readStretch_145 hl (by decide) rfl (fun ls hl => ?_)
  refine lv_goto (tgt := 18) S.1 S.2.1 dX0_readStretch_147 (by decide) ?_
  exact kk H locs ls hP hS (lv_sub hl [1, 2, 3, 0, 4] rfl)
set_option maxHeartbeats 4000000 in
set_option maxRecDepth 100000 in
theorem rd_loop (S : CallFix p m c cX0_readStretch 7 s args lw_all RX0) (hK : va_K (dC, dI) qf_cl (qf_tys dA) s) (hf : f < 2) (hB : qf_bk b) (hR : qf_RM R 3 66) (hg : qf_dj g) (hGb : qf_B G = b) {a e1x cnt : Nat} {ow rd0 : Nat → Nat} (hRD : qf_RD (qf_pe (2 ^ b) (qf_N G)) (qf_pe (2 ^ b) (qf_O G)) (qf_pe (2 ^ b) (qf_P G)) ow (2 ^ b) a e1x) (hU : ∀ t, a ≤ t → t < e1x → qf_U G (t % 2 ^ b) = true) (hUe : qf_U G (e1x % 2 ^ b) = false) (hL : ∀ t, a ≤ t → t < e1x → qf_L G (t % 2 ^ b) < 2 ^ (8 - b)) (h64 : cnt + (e1x - a) ≤ 64) (kk : ∀ (rd : Nat → Nat) (H : Heap) (locs : List Loc) (ls : Array Slot), (∀ i, i < e1x - a → rd (cnt + i) = ow (a + i) % 2 ^ b * 2 ^ (8 - b) + qf_L G ((a + i) % 2 ^ b)) → (∀ j, j < cnt → rd j = rd0 j) → va_P (dC, dI) qf_cl (qf_w g dA (va_up F f G, cnt + (e1x - a), rd)) H → va_S (qf_A g) H0 H locs → lv_has ls 7 [(0, .ref (g 0)), (5, .int (nI (e1x % 2 ^ b)))] → W p l e R s m args below meth c H locs 0 0 Q (F0 m 150 ls [])) :
    ∀ (n t o : Nat) (rd : Nat → Nat) (H : Heap) (locs : List Loc), e1x = t + n → a ≤ t → (o = if t = a then a else ow (t - 1)) → (∀ i, i < t - a → rd (cnt + i) = ow (a + i) % 2 ^ b * 2 ^ (8 - b) + qf_L G ((a + i) % 2 ^ b)) → (∀ j, j < cnt → rd j = rd0 j) → va_P (dC, dI) qf_cl (qf_w g dA (va_up F f G, cnt + (t - a), rd)) H → va_S (qf_A g) H0 H locs → ∀ ls, lv_has ls 7 [(0, .ref (g 0)), (1, .int (nI f)), (4, .int (nI (64 * f))), (5, .int (nI (t % 2 ^ b))), (6, .int (nI (o % 2 ^ b)))] → W p l e R s m args below meth c H locs 0 0 Q (F0 m 18 ls []) := by
  intro n
  induction n using Nat.strongRecOn with
  | ind n ih =>
    intro t o rd H locs hn ht ho hd1 hd2 hP hS ls hl
    refine lv_aload_n S.1 S.2.1 dX0_readStretch_18 rfl (lv_at hl 0 rfl) ?_
    refine lv_iload_n S.1 S.2.1 dX0_readStretch_19 rfl (lv_at hl 1 rfl) ?_
    refine lv_iload S.1 S.2.1 dX0_readStretch_20 (lv_at hl 3 rfl) ?_
    refine yc_isFree S hK hP hf (qf_bk_s hB _) (hR.le (by decide) (by decide)) hl.1 (Nat.le_of_ble_eq_true rfl) dX0_readStretch_22 ?_
    refine qf_ifne (tgt := 150) S.1 S.2.1 dX0_readStretch_25 (by decide) (fun h1 => ?_) (fun h1 => ?_)
    · have h2 : qf_U G (t % 2 ^ b) = false := by simpa using h1
      have e1 : t = e1x := by
        rcases Nat.eq_zero_or_pos n with q | q
        · omega
        · have := hU t ht (by omega)
          rw [h2] at this; cases this
      subst e1
      exact kk rd H locs ls hd1 hd2 hP hS (lv_sub hl [0, 3] rfl)
    · have h2 : qf_U G (t % 2 ^ b) = true := by simpa using h1
      have hlt : t < e1x := by
        rcases Nat.eq_zero_or_pos n with q | q
        · have e1 : t = e1x := by omega
          rw [e1, hUe] at h2; cases h2
        · omega
      obtain ⟨r1, r2, r3, r4⟩ := hRD t ht hlt
      have next : ∀ (H : Heap) (locs : List Loc) (ls : Array Slot), va_P (dC, dI) qf_cl (qf_w g dA (va_up F f G, cnt + (t - a), rd)) H → va_S (qf_A g) H0 H locs → lv_has ls 7 [(0, .ref (g 0)), (1, .int (nI f)), (4, .int (nI (64 * f))), (5, .int (nI (t % 2 ^ b))), (6, .int (nI (ow t % 2 ^ b)))] → W p l e R s m args below meth c H locs 0 0 Q (F0 m 95 ls []) := by
        intro H locs ls hP hS hl
        refine rd_put S hK hf hB hR hg hP hGb hS (by omega) (hL t ht hlt) (fun H locs ls hP hS hl => ?_) ls hl
        exact ih (n - 1) (by omega) (t + 1) (ow t) (va_up rd (cnt + (t - a)) (ow t % 2 ^ b * 2 ^ (8 - b) + qf_L G (t % 2 ^ b))) H locs (by omega) (by omega) (by rw [if_neg (by omega), Nat.add_sub_cancel]) (fun i hi => by
          by_cases e1 : i = t - a
          · rw [e1, qf_up_s, show a + (t - a) = t by omega]
          · rw [qf_up_n _ _ (by omega)]
            exact hd1 i (by omega)) (fun j hj => by rw [qf_up_n _ _ (by omega)]; exact hd2 j hj) (by rw [show cnt + (t + 1 - a) = cnt + (t - a) + 1 by omega]; exact hP) hS ls hl
      refine lv_aload_n S.1 S.2.1 dX0_readStretch_28 rfl (lv_at hl 0 rfl) ?_
      refine xg_P S hK hP dX0_readStretch_29 ?_
      refine lv_iload S.1 S.2.1 dX0_readStretch_32 (lv_at hl 2 rfl) ?_
      refine lv_iload S.1 S.2.1 dX0_readStretch_34 (lv_at hl 3 rfl) ?_
      refine lv_iadd S.1 S.2.1 dX0_readStretch_36 ?_
      refine qf_top (nI_add _ _) ?_
      refine yl_P S hK hP rfl hf (qf_bk_s hB _) dX0_readStretch_37 ?_
      refine qf_ifne (tgt := 48) S.1 S.2.1 dX0_readStretch_38 (by decide) (fun h3 => ?_) (fun h3 => ?_)
      · have hat := r2 h3
        rw [if_neg (by omega)] at ho
        refine lv_aload_n S.1 S.2.1 dX0_readStretch_48 rfl (lv_at hl 0 rfl) ?_
        refine xg_O S hK hP dX0_readStretch_49 ?_
        refine lv_iload S.1 S.2.1 dX0_readStretch_52 (lv_at hl 2 rfl) ?_
        refine lv_iload S.1 S.2.1 dX0_readStretch_54 (lv_at hl 3 rfl) ?_
        refine lv_iadd S.1 S.2.1 dX0_readStretch_56 ?_
        refine qf_top (nI_add _ _) ?_
        refine yl_O S hK hP rfl hf (qf_bk_s hB _) dX0_readStretch_57 ?_
        refine qf_ifne (tgt := 95) S.1 S.2.1 dX0_readStretch_58 (by decide) (fun h4 => ?_) (fun h4 => ?_)
        · have e1 : ow t = o := by rw [ho]; exact r3 h3 h4
          exact next H locs ls hP hS (by rw [e1]; exact hl)
        · obtain ⟨c1, c2, c3⟩ := r4 h3 h4
          rw [← ho] at c1 c2
          refine lv_aload_n S.1 S.2.1 dX0_readStretch_61 rfl (lv_at hl 0 rfl) ?_
          refine lv_iload_n S.1 S.2.1 dX0_readStretch_62 rfl (lv_at hl 1 rfl) ?_
          refine lv_iload S.1 S.2.1 dX0_readStretch_63 (lv_at hl 4 rfl) ?_
          refine yc_after (x := o) S hK hP hf hGb hB (hR.le (by decide) (by decide)) hl.1 (Nat.le_of_ble_eq_true rfl) dX0_readStretch_65 ?_
          refine lv_istore (lv' := [(6, .int (nI ((o + 1) % 2 ^ b))), (0, .ref (g 0)), (1, .int (nI f)), (4, .int (nI (64 * f))), (5, .int (nI (t % 2 ^ b)))]) S.1 S.2.1 dX0_readStretch_68 hl (by decide) rfl (fun ls hl => ?_)
          exact rd_loop1 S hK hf hB hR hP hGb (y := ow t) c3 (fun ls hl => next H locs ls hP hS hl) (ow t - (o + 1)) (o + 1) (by omega) (fun t2 q1 q2 => c2 t2 (by omega) q2) ls (lv_sub hl [1, 2, 3, 4, 0] rfl)
      · refine lv_iload S.1 S.2.1 dX0_readStretch_41 (lv_at hl 3 rfl) ?_
        refine lv_istore (lv' := [(6, .int (nI (t % 2 ^ b))), (0, .ref (g 0)), (1, .int (nI f)), (4, .int (nI (64 * f))), (5, .int (nI (t % 2 ^ b)))]) S.1 S.2.1 dX0_readStretch_43 hl (by decide) rfl (fun ls hl => ?_)
        refine lv_goto (tgt := 95) S.1 S.2.1 dX0_readStretch_45 (by decide) ?_
        exact next H locs ls hP hS (by rw [r1 h3]; exact lv_sub hl [1, 2, 3, 4, 0] rfl)
end QRD
set_option maxHeartbeats 4000000 in
set_option maxRecDepth 100000 in
/-- readStretch: from a to the next free place -/
theorem met_readStretch (l : Launch) (dC : Nat → ClassId) (dI : Nat → Nat → Nat) (dA : Nat → ClassId) (g : Nat → Nat) (F : Nat → qf_FS) (f : Nat) (G : qf_FS) (rc : Nat) (rd : Nat → Nat) (b a e1x cnt : Nat) (ow : Nat → Nat) (hf : f < 2) (hg : qf_dj g) (hGb : qf_B G = b) (hB : qf_bk b) (hae : a ≤ e1x) (hRD : qf_RD (qf_pe (2 ^ b) (qf_N G)) (qf_pe (2 ^ b) (qf_O G)) (qf_pe (2 ^ b) (qf_P G)) ow (2 ^ b) a e1x) (hU : ∀ t, a ≤ t → t < e1x → qf_U G (t % 2 ^ b) = true) (hUe : qf_U G (e1x % 2 ^ b) = false) (hL : ∀ t, a ≤ t → t < e1x → qf_L G (t % 2 ^ b) < 2 ^ (8 - b)) (h64 : cnt + (e1x - a) ≤ 64) : Met l yX0_readStretch (ws_ yX0_readStretch cX0_readStretch 7 (some .int)) ({ frames := 3, cells := 0, slots := 0, locals := 66 }) (qf_Pc g dA dC dI (va_up F f G, rc, rd) [.int (nI f), .int (nI (a % 2 ^ b)), .int (nI cnt)]) (va_Qi (fun r u => r = nI (e1x % 2 ^ b) ∧ ∃ rd1, u = (va_up F f G, cnt + (e1x - a), rd1) ∧ (∀ i, i < e1x - a → rd1 (cnt + i) = ow (a + i) % 2 ^ b * 2 ^ (8 - b) + qf_L G ((a + i) % 2 ^ b)) ∧ ∀ j, j < cnt → rd1 j = rd j) (qf_Bt g dA dC dI) (qf_A g)) 0 0 (qf_A g) := by
  refine qf_met (by decide) rfl (Nat.le_of_ble_eq_true rfl) ?_
  intro p e s m below meth c ls S hr hlocks hP hK hl
  have hR : qf_RM ({ frames := 3, cells := 0, slots := 0, locals := 66 }) 3 66 := ⟨Nat.le_refl _, Nat.le_refl _⟩
  have hl : lv_has ls 7 [(0, .ref (g 0)), (1, .int (nI f)), (2, .int (nI (a % 2 ^ b))), (3, .int (nI cnt))] := hl
  have hS : va_S (qf_A g) s.heap s.heap [] := va_S.rf
  refine lv_aload_n S.1 S.2.1 dX0_readStretch_0 rfl (lv_at hl 0 rfl) ?_
  refine lv_iload_n S.1 S.2.1 dX0_readStretch_1 rfl (lv_at hl 1 rfl) ?_
  refine yc_base S hK hP (hR.le (by decide) (by decide)) hl.1 (Nat.le_of_ble_eq_true rfl) dX0_readStretch_2 ?_
  refine lv_istore (lv' := [(4, .int (nI (64 * f))), (0, .ref (g 0)), (1, .int (nI f)), (2, .int (nI (a % 2 ^ b))), (3, .int (nI cnt))]) S.1 S.2.1 dX0_readStretch_5 hl (by decide) rfl (fun ls hl => ?_)
  refine lv_iload_n S.1 S.2.1 dX0_readStretch_7 rfl (lv_at hl 3 rfl) ?_
  refine lv_istore (lv' := [(5, .int (nI (a % 2 ^ b))), (4, .int (nI (64 * f))), (0, .ref (g 0)), (1, .int (nI f)), (2, .int (nI (a % 2 ^ b))), (3, .int (nI cnt))]) S.1 S.2.1 dX0_readStretch_8 hl (by decide) rfl (fun ls hl => ?_)
  refine lv_iload_n S.1 S.2.1 dX0_readStretch_10 rfl (lv_at hl 4 rfl) ?_
  refine lv_istore (lv' := [(6, .int (nI (a % 2 ^ b))), (5, .int (nI (a % 2 ^ b))), (4, .int (nI (64 * f))), (0, .ref (g 0)), (1, .int (nI f)), (2, .int (nI (a % 2 ^ b))), (3, .int (nI cnt))]) S.1 S.2.1 dX0_readStretch_11 hl (by decide) rfl (fun ls hl => ?_)
  refine lv_aload_n S.1 S.2.1 dX0_readStretch_13 rfl (lv_at hl 3 rfl) ?_
  refine lv_iload_n S.1 S.2.1 dX0_readStretch_14 rfl (lv_at hl 6 rfl) ?_
  refine xs_C (v := cnt) S hK hP hg hS rfl dX0_readStretch_15 (fun H locs hP hS => ?_)
  have hP : va_P (dC, dI) qf_cl (qf_w g dA (va_up F f G, cnt + (a - a), rd)) H := by rw [Nat.sub_self]; exact hP
  refine rd_loop S hK hf hB hR hg hGb (H0 := s.heap) (rd0 := rd) hRD hU hUe hL h64 (fun rd1 H locs ls d1 d2 hP hS hl => ?_) (e1x - a) a a rd H locs (by omega) (Nat.le_refl _) (if_pos rfl).symm (fun i hi => by omega) (fun _ _ => rfl) hP hS ls (lv_sub hl [3, 4, 2, 1, 0] rfl)
  refine lv_iload S.1 S.2.1 dX0_readStretch_150 (lv_at hl 1 rfl) ?_
  exact W.iret S.1 S.2.1 hr (fun t ht hW => ⟨⟨_, (va_up F f G, cnt + (e1x - a), rd1), rfl, ⟨rfl, rd1, rfl, d1, d2⟩, by unfold qf_Bt; rw [ht]; exact hP⟩, hS.F ht⟩) hS.2.2 dX0_readStretch_152
section QRD2
variable {p : Program} {l : Launch} {e : Env} {R : Room} {s : State} {m : MethodId} {args : Array Value} {below : List Frame} {meth : Method} {c : Code} {H H0 : Heap} {locs : List Loc} {cells slots : Nat} {Q : State → Prop} {cc : ByteArray} {pc nL : Nat} {ls : Array Slot} {rest : List Value} {g : Nat → Nat} {dC : Nat → ClassId} {dI : Nat → Nat → Nat} {dA : Nat → ClassId} {F : Nat → qf_FS} {f b : Nat} {G : qf_FS} {rc : Nat} {rd : Nat → Nat} {u : qf_QS}
theorem yc_readStretch {a e1x cnt : Nat} {ow : Nat → Nat} (S : CallFix p m c cc nL s args lw_all RX0) (hK : va_K (dC, dI) qf_cl (qf_tys dA) s) (hP : va_P (dC, dI) qf_cl (qf_w g dA (va_up F f G, rc, rd)) H) (hS : va_S (qf_A g) H0 H locs) (hg : qf_dj g) (hf : f < 2) (hGb : qf_B G = b) (hB : qf_bk b) (hae : a ≤ e1x) (hRD : qf_RD (qf_pe (2 ^ b) (qf_N G)) (qf_pe (2 ^ b) (qf_O G)) (qf_pe (2 ^ b) (qf_P G)) ow (2 ^ b) a e1x) (hU : ∀ t, a ≤ t → t < e1x → qf_U G (t % 2 ^ b) = true) (hUe : qf_U G (e1x % 2 ^ b) = false) (hL : ∀ t, a ≤ t → t < e1x → qf_L G (t % 2 ^ b) < 2 ^ (8 - b)) (h64 : cnt + (e1x - a) ≤ 64) (hR : qf_RM R 4 (8 + (7 + 11) + 66)) (hsz : ls.size = nL) (hroom : (rest.map fun v => v.category).sum ≤ 8) (hdg : decode cc pc = .ok (.invokevirtual 102, 3)) (kk : ∀ (rd1 : Nat → Nat) (H1 : Heap) (locs1 : List Loc), (∀ i, i < e1x - a → rd1 (cnt + i) = ow (a + i) % 2 ^ b * 2 ^ (8 - b) + qf_L G ((a + i) % 2 ^ b)) → (∀ j, j < cnt → rd1 j = rd j) → va_P (dC, dI) qf_cl (qf_w g dA (va_up F f G, cnt + (e1x - a), rd1)) H1 → va_S (qf_A g) H0 H1 locs1 → W p l e R s m args below meth c H1 locs1 0 0 Q (F0 m (pc + 3) ls (.int (nI (e1x % 2 ^ b)) :: rest))) : W p l e R s m args below meth c H locs 0 0 Q (F0 m pc ls (.int (nI cnt) :: .int (nI (a % 2 ^ b)) :: .int (nI f) :: .ref (g 0) :: rest)) :=
  qf_calli S hK hP hS (fun _ h => h) (met_readStretch l dC dI dA g F f G rc rd b a e1x cnt ow hf hg hGb hB hae hRD hU hUe hL h64) (lw_V q128 q130 qs14 q21 q131) rfl rfl (by decide +kernel) hR (n := 3) rfl hsz hroom hdg ⟨Nat.zero_le _, Nat.zero_le _⟩ (As := [.int (nI f), .int (nI (a % 2 ^ b)), .int (nI cnt)]) rfl (fun r u1 H1 locs1 h1 h2 h3 _ _ => by
    obtain ⟨e0, rd1, e1, a1, a2⟩ := h1
    rw [e0]
    exact kk rd1 H1 locs1 a1 a2 (by rw [← e1]; exact h2) h3)
end QRD2
end
section
/-! readAll -/
section QRA
variable {p : Program} {l : Launch} {e : Env} {R : Room} {s : State} {m : MethodId} {args : Array Value} {below : List Frame} {meth : Method} {c : Code} {H H0 : Heap} {locs : List Loc} {cells slots : Nat} {Q : State → Prop} {cc : ByteArray} {pc nL : Nat} {ls : Array Slot} {rest : List Value} {g : Nat → Nat} {dC : Nat → ClassId} {dI : Nat → Nat → Nat} {dA : Nat → ClassId} {F : Nat → qf_FS} {f b : Nat} {G : qf_FS} {rc : Nat} {rd : Nat → Nat} {u : qf_QS}
set_option maxHeartbeats 4000000 in
set_option maxRecDepth 100000 in
theorem ra_loop1 (S : CallFix p m c cX0_readAll 4 s args lw_all RX0) (hK : va_K (dC, dI) qf_cl (qf_tys dA) s) (hf : f < 2) (hR : qf_RM R 4 92) (hP : va_P (dC, dI) qf_cl (qf_w g dA (va_up F f G, rc, rd)) H) {z : Nat} (hz64 : z < 64) (hz : qf_U G z = false) (kk : ∀ ls, lv_has ls 4 [(0, .ref (g 0)), (1, .int (nI f)), (2, .int (nI z))] → W p l e R s m args below meth c H locs 0 0 Q (F0 m 22 ls [])) :
    ∀ (n x : Nat), z = x + n → (∀ t, x ≤ t → t < z → qf_U G t = true) → ∀ ls, lv_has ls 4 [(0, .ref (g 0)), (1, .int (nI f)), (2, .int (nI x))] → W p l e R s m args below meth c H locs 0 0 Q (F0 m 7 ls []) := by
  intro n
  induction n using Nat.strongRecOn with
  | ind n ih =>
    intro x hx hal ls hl
    refine lv_aload_n S.1 S.2.1 dX0_readAll_7 rfl (lv_at hl 0 rfl) ?_
    refine lv_iload_n S.1 S.2.1 dX0_readAll_8 rfl (lv_at hl 1 rfl) ?_
    refine lv_iload_n S.1 S.2.1 dX0_readAll_9 rfl (lv_at hl 2 rfl) ?_
    refine yc_isFree S hK hP hf (by omega) (hR.le (by decide) (by decide)) hl.1 (Nat.le_of_ble_eq_true rfl) dX0_readAll_10 ?_
    refine qf_ifne (tgt := 22) S.1 S.2.1 dX0_readAll_13 (by decide) (fun h1 => ?_) (fun h1 => ?_)
    · have h2 : qf_U G x = false := by simpa using h1
      have e1 : x = z := by
        rcases Nat.eq_zero_or_pos n with q | q
        · omega
        · have := hal x (Nat.le_refl _) (by omega)
          rw [h2] at this; cases this
      rw [e1] at hl
      exact kk ls hl
    · have h2 : qf_U G x = true := by simpa using h1
      have hn : n ≠ 0 := fun q => by
        have e1 : x = z := by omega
        rw [e1, hz] at h2; cases h2
      refine lv_iinc (v := nI (x + 1)) (lv' := [(2, .int (nI (x + 1))), (0, .ref (g 0)), (1, .int (nI f))]) S.1 S.2.1 dX0_readAll_16 hl (k := 2) rfl (nI_1 _) (by decide) rfl (fun ls hl => ?_)
      refine lv_goto (tgt := 7) S.1 S.2.1 dX0_readAll_19 (by decide) ?_
      exact ih (n - 1) (by omega) (x + 1) (by omega) (fun t t1 t2 => hal t (by omega) t2) ls (lv_sub hl [1, 2, 0] rfl)
set_option maxHeartbeats 4000000 in
set_option maxRecDepth 100000 in
theorem ra_loop (S : CallFix p m c cX0_readAll 4 s args lw_all RX0) (hK : va_K (dC, dI) qf_cl (qf_tys dA) s) (hf : f < 2) (hB : qf_bk b) (hR : qf_RM R 4 92) (hg : qf_dj g) (hGb : qf_B G = b) {D : Nat → Nat} {held z : Nat} {c1 : Nat → Nat} (I : qf_Iv (2 ^ b) (2 ^ (8 - b)) (qf_pe (2 ^ b) (qf_U G)) (qf_pe (2 ^ b) (qf_N G)) (qf_pe (2 ^ b) (qf_O G)) (qf_pe (2 ^ b) (qf_P G)) D (qf_pe (2 ^ b) (qf_L G)) held c1) (hz : z < 2 ^ b) (hz64 : z < 64) (hzU : qf_pe (2 ^ b) (qf_U G) z = false) (hzN : qf_pe (2 ^ b) (qf_U G) (z + 2 ^ b) = false) (kk : ∀ (rc : Nat) (rd : Nat → Nat) (H : Heap) (locs : List Loc) (ls : Array Slot), rc = qf_ct (qf_pe (2 ^ b) (qf_U G)) (z + 1) (z + 2 ^ b - (z + 1)) → (∀ q, qf_ct (fun i => rd i == q) 0 rc = qf_ct (fun x => qf_pe (2 ^ b) (qf_U G) x && (qf_PR (2 ^ b) (2 ^ (8 - b)) D (qf_pe (2 ^ b) (qf_L G)) x == q)) (z + 1) (z + 2 ^ b - (z + 1))) → (∀ i, i < rc → rd i < 256) → va_P (dC, dI) qf_cl (qf_w g dA (va_up F f G, rc, rd)) H → va_S (qf_A g) H0 H locs → W p l e R s m args below meth c H locs 0 0 Q (F0 m 67 ls [])) :
    ∀ (n t rc : Nat) (rd : Nat → Nat) (H : Heap) (locs : List Loc), n = z + 2 ^ b - t → z < t → t ≤ z + 2 ^ b → (qf_pe (2 ^ b) (qf_U G) (t - 1) = false ∨ qf_pe (2 ^ b) (qf_U G) t = false) → rc = qf_ct (qf_pe (2 ^ b) (qf_U G)) (z + 1) (t - (z + 1)) → (∀ q, qf_ct (fun i => rd i == q) 0 rc = qf_ct (fun x => qf_pe (2 ^ b) (qf_U G) x && (qf_PR (2 ^ b) (2 ^ (8 - b)) D (qf_pe (2 ^ b) (qf_L G)) x == q)) (z + 1) (t - (z + 1))) → (∀ i, i < rc → rd i < 256) → va_P (dC, dI) qf_cl (qf_w g dA (va_up F f G, rc, rd)) H → va_S (qf_A g) H0 H locs → ∀ ls, lv_has ls 4 [(0, .ref (g 0)), (1, .int (nI f)), (2, .int (nI z)), (3, .int (nI (t % 2 ^ b)))] → W p l e R s m args below meth c H locs 0 0 Q (F0 m 29 ls []) := by
  intro n
  induction n using Nat.strongRecOn with
  | ind n ih =>
    intro t rc rd H locs hn t1 t2 i1 i2 i3 i4 hP hS ls hl
    refine lv_iload_n S.1 S.2.1 dX0_readAll_29 rfl (lv_at hl 3 rfl) ?_
    refine lv_iload_n S.1 S.2.1 dX0_readAll_30 rfl (lv_at hl 2 rfl) ?_
    refine qf_icmpeq (tgt := 67) S.1 S.2.1 (Nat.lt_trans (qf_bk_s hB _) (by decide)) (by omega) dX0_readAll_31 (by decide) (fun h1 => ?_) (fun h1 => ?_)
    · have e1 : t = z + 2 ^ b := qf_win_inj (N := 2 ^ b) (z := z) (by rw [h1, Nat.add_mod_right, Nat.mod_eq_of_lt hz]) t1 t2 (by omega) (Nat.le_refl _)
      subst e1
      exact kk rc rd H locs ls i2 i3 i4 hP hS
    · have hlt : t < z + 2 ^ b := by
        rcases Nat.eq_or_lt_of_le t2 with r | r
        · exact absurd (by rw [r, Nat.add_mod_right, Nat.mod_eq_of_lt hz]) h1
        · exact r
      refine lv_aload_n S.1 S.2.1 dX0_readAll_34 rfl (lv_at hl 0 rfl) ?_
      refine lv_iload_n S.1 S.2.1 dX0_readAll_35 rfl (lv_at hl 1 rfl) ?_
      refine lv_iload_n S.1 S.2.1 dX0_readAll_36 rfl (lv_at hl 3 rfl) ?_
      refine yc_isFree S hK hP hf (qf_bk_s hB _) (hR.le (by decide) (by decide)) hl.1 (Nat.le_of_ble_eq_true rfl) dX0_readAll_37 ?_
      refine qf_ifeq (tgt := 53) S.1 S.2.1 dX0_readAll_40 (by decide) (fun h2 => ?_) (fun h2 => ?_)
      · have u1 : qf_pe (2 ^ b) (qf_U G) t = true := by
          have h3 : (!(qf_U G (t % 2 ^ b))) = false := h2
          show qf_U G (t % 2 ^ b) = true
          simpa using h3
        have u0 : qf_pe (2 ^ b) (qf_U G) (t - 1) = false := by
          rcases i1 with r | r
          · exact r
          · rw [u1] at r; cases r
        obtain ⟨e1x, f1, f2, f3, f4⟩ := qf_first' (P := qf_pe (2 ^ b) (qf_U G)) (a := t) (b := z + 2 ^ b) (by omega) hzN
        have hte : t < e1x := by
          rcases Nat.eq_or_lt_of_le f1 with r | r
          · rw [← r, u1] at f4; cases f4
          · exact r
        have hrc : rc ≤ t - (z + 1) := by rw [i2]; exact qf_ct_le _ _ _
        have own : ∀ x, t ≤ x → x < e1x → (x - D x) % 2 ^ b * 2 ^ (8 - b) + qf_L G (x % 2 ^ b) = qf_PR (2 ^ b) (2 ^ (8 - b)) D (qf_pe (2 ^ b) (qf_L G)) x := fun x q1 q2 => by
          have d := qf_dz I.1 hzU (x := x) (by omega) (f3 x q1 q2)
          exact (qf_PR_own (N := 2 ^ b) (R := 2 ^ (8 - b)) (D := D) (L := qf_pe (2 ^ b) (qf_L G)) (x := x) (by omega) (by omega)).symm
        refine lv_aload_n S.1 S.2.1 dX0_readAll_53 rfl (lv_at hl 0 rfl) ?_
        refine lv_iload_n S.1 S.2.1 dX0_readAll_54 rfl (lv_at hl 1 rfl) ?_
        refine lv_iload_n S.1 S.2.1 dX0_readAll_55 rfl (lv_at hl 3 rfl) ?_
        refine lv_aload_n S.1 S.2.1 dX0_readAll_56 rfl (lv_at hl 0 rfl) ?_
        refine xg_C S hK hP dX0_readAll_57 ?_
        refine qf_top (y := nI rc) rfl ?_
        refine yc_readStretch (ow := fun x => x - D x) S hK hP hS hg hf hGb hB f1 (qf_RD_of I.1 hzU t1 u0 f3) f3 f4 (fun x q1 q2 => I.2.2.1 x (f3 x q1 q2)) (by have := (qf_bk_64 hB).2; omega) (hR.le (by decide) (by decide)) hl.1 (Nat.le_of_ble_eq_true rfl) dX0_readAll_60 (fun rd1 H locs d1 d2 hP hS => ?_)
        refine lv_istore_n (lv' := [(3, .int (nI (e1x % 2 ^ b))), (0, .ref (g 0)), (1, .int (nI f)), (2, .int (nI z))]) S.1 S.2.1 dX0_readAll_63 rfl hl (by decide) rfl (fun ls hl => ?_)
        refine lv_goto (tgt := 29) S.1 S.2.1 dX0_readAll_64 (by decide) ?_
        have eN : e1x - (z + 1) = (t - (z + 1)) + (e1x - t) := by omega
        have eZ : z + 1 + (t - (z + 1)) = t := by omega
        exact ih (z + 2 ^ b - e1x) (by omega) e1x (rc + (e1x - t)) rd1 H locs rfl (by omega) f2 (Or.inr f4) (by
          rw [eN, qf_ct_app, ← i2, eZ, qf_ct_all (P := qf_pe (2 ^ b) (qf_U G)) (a := t) (fun i hi => f3 _ (by omega) (by omega))]) (fun q => by
          rw [qf_ct_app, Nat.zero_add, eN, qf_ct_app, ← i3 q, eZ]
          congr 1
          · exact qf_ct_sh (fun i hi => by show (rd1 (0 + i) == q) = (rd (0 + i) == q); rw [d2 (0 + i) (by omega)])
          · refine qf_ct_sh (fun i hi => ?_)
            show (rd1 (rc + i) == q) = (qf_pe (2 ^ b) (qf_U G) (t + i) && (qf_PR (2 ^ b) (2 ^ (8 - b)) D (qf_pe (2 ^ b) (qf_L G)) (t + i) == q))
            rw [d1 i hi, f3 (t + i) (by omega) (by omega), Bool.true_and, own (t + i) (by omega) (by omega)]) (fun i hi => by
          by_cases q1 : i < rc
          · rw [d2 i q1]; exact i4 i q1
          · have := d1 (i - rc) (by omega)
            rw [show rc + (i - rc) = i by omega] at this
            rw [this]
            exact qf_pr_lt hB (Nat.mod_lt _ (qf_bk_pos hB)) (I.2.2.1 _ (f3 (t + (i - rc)) (by omega) (by omega)))) hP hS ls (lv_sub hl [1, 2, 3, 0] rfl)
      · have u1 : qf_pe (2 ^ b) (qf_U G) t = false := by
          have h3 : (!(qf_U G (t % 2 ^ b))) = true := h2
          show qf_U G (t % 2 ^ b) = false
          simpa using h3
        refine lv_aload_n S.1 S.2.1 dX0_readAll_43 rfl (lv_at hl 0 rfl) ?_
        refine lv_iload_n S.1 S.2.1 dX0_readAll_44 rfl (lv_at hl 1 rfl) ?_
        refine lv_iload_n S.1 S.2.1 dX0_readAll_45 rfl (lv_at hl 3 rfl) ?_
        refine yc_after (x := t) S hK hP hf hGb hB (hR.le (by decide) (by decide)) hl.1 (Nat.le_of_ble_eq_true rfl) dX0_readAll_46 ?_
        refine lv_istore_n (lv' := [(3, .int (nI ((t + 1) % 2 ^ b))), (0, .ref (g 0)), (1, .int (nI f)), (2, .int (nI z))]) S.1 S.2.1 dX0_readAll_49 rfl hl (by decide) rfl (fun ls hl => ?_)
        refine lv_goto (tgt := 29) S.1 S.2.1 dX0_readAll_50 (by decide) ?_
        have eN : t + 1 - (z + 1) = (t - (z + 1)) + 1 := by omega
        have eZ : z + 1 + (t - (z + 1)) = t := by omega
        exact ih (z + 2 ^ b - (t + 1)) (by omega) (t + 1) rc rd H locs rfl (by omega) (by omega) (Or.inl (by rw [Nat.add_sub_cancel]; exact u1)) (by
          rw [eN, qf_ct_app, ← i2, eZ, qf_ct_1, u1]; rfl) (fun q => by
          rw [eN, qf_ct_app, ← i3 q, eZ, qf_ct_1]
          show _ = _ + (if (qf_pe (2 ^ b) (qf_U G) t && _) = true then 1 else 0)
          rw [u1]; rfl) i4 hP hS ls (lv_sub hl [1, 2, 3, 0] rfl)
end QRA
set_option maxHeartbeats 4000000 in
set_option maxRecDepth 100000 in
/-- readAll: all that is held, in some order -/
theorem met_readAll (l : Launch) (dC : Nat → ClassId) (dI : Nat → Nat → Nat) (dA : Nat → ClassId) (g : Nat → Nat) (F : Nat → qf_FS) (f : Nat) (G : qf_FS) (rc : Nat) (rd : Nat → Nat) (b : Nat) (c : Nat → Nat) (hf : f < 2) (hg : qf_dj g) (hI : qf_inv b G c) : Met l yX0_readAll (ws_ yX0_readAll cX0_readAll 4 none) ({ frames := 4, cells := 0, slots := 0, locals := 92 }) (qf_Pc g dA dC dI (va_up F f G, rc, rd) [.int (nI f)]) (va_Qv (fun u => ∃ rd1, u = (va_up F f G, qf_H G, rd1) ∧ (∀ q, qf_ct (fun i => rd1 i == q) 0 (qf_H G) = c q) ∧ ∀ i, i < qf_H G → rd1 i < 256) (qf_Bt g dA dC dI) (qf_A g)) 0 0 (qf_A g) := by
  refine qf_met (by decide) rfl (Nat.le_of_ble_eq_true rfl) ?_
  intro p e s m below meth c' ls S hr hlocks hP hK hl
  have hR : qf_RM ({ frames := 4, cells := 0, slots := 0, locals := 92 }) 4 92 := ⟨Nat.le_refl _, Nat.le_refl _⟩
  have hl : lv_has ls 4 [(0, .ref (g 0)), (1, .int (nI f))] := hl
  have hS : va_S (qf_A g) s.heap s.heap [] := va_S.rf
  obtain ⟨z0, z1, z2⟩ := qf_inv_free hI
  obtain ⟨hB, hGb, hH, D, I⟩ := id hI
  have hN := qf_bk_pos hB
  have h64 := (qf_bk_64 hB).2
  obtain ⟨z, g1, g2, g3, g4⟩ := qf_first' (P := qf_U G) (a := 0) (b := z0) (Nat.zero_le _) z2
  have hz : z < 2 ^ b := by omega
  have hzU : qf_pe (2 ^ b) (qf_U G) z = false := by rw [qf_pe_at _ hz]; exact g4
  have hzN : qf_pe (2 ^ b) (qf_U G) (z + 2 ^ b) = false := by rw [qf_pe_per]; exact hzU
  refine lv_aload_n S.1 S.2.1 dX0_readAll_0 rfl (lv_at hl 0 rfl) ?_
  refine lv_iconst (v := nI 0) S.1 S.2.1 dX0_readAll_1 (by decide) ?_
  refine xs_C (v := 0) S hK hP hg hS rfl dX0_readAll_2 (fun H locs hP hS => ?_)
  have hP : va_P (dC, dI) qf_cl (qf_w g dA (va_up F f G, 0, rd)) H := hP
  refine lv_iconst (v := nI 0) S.1 S.2.1 dX0_readAll_5 (by decide) ?_
  refine lv_istore_n (lv' := [(2, .int (nI 0)), (0, .ref (g 0)), (1, .int (nI f))]) S.1 S.2.1 dX0_readAll_6 rfl hl (by decide) rfl (fun ls hl => ?_)
  refine ra_loop1 S hK hf hR hP (z := z) (by omega) g4 (fun ls hl => ?_) z 0 (by omega) g3 ls (lv_sub hl [1, 2, 0] rfl)
  refine lv_aload_n S.1 S.2.1 dX0_readAll_22 rfl (lv_at hl 0 rfl) ?_
  refine lv_iload_n S.1 S.2.1 dX0_readAll_23 rfl (lv_at hl 1 rfl) ?_
  refine lv_iload_n S.1 S.2.1 dX0_readAll_24 rfl (lv_at hl 2 rfl) ?_
  refine qf_top (congrArg nI (Nat.mod_eq_of_lt hz).symm) ?_
  refine yc_after (x := z) S hK hP hf hGb hB (hR.le (by decide) (by decide)) hl.1 (Nat.le_of_ble_eq_true rfl) dX0_readAll_25 ?_
  refine lv_istore_n (lv' := [(3, .int (nI ((z + 1) % 2 ^ b))), (0, .ref (g 0)), (1, .int (nI f)), (2, .int (nI z))]) S.1 S.2.1 dX0_readAll_28 rfl hl (by decide) rfl (fun ls hl => ?_)
  refine ra_loop S hK hf hB hR hg hGb (H0 := s.heap) I hz (by omega) hzU hzN (fun rc1 rd1 H locs ls j1 j2 j3 hP hS => ?_) (z + 2 ^ b - (z + 1)) (z + 1) 0 rd H locs rfl (by omega) (by omega) (Or.inl hzU) (by rw [Nat.sub_self]; rfl) (fun q => by rw [Nat.sub_self]; rfl) (fun i hi => absurd hi (Nat.not_lt_zero _)) hP hS ls (lv_sub hl [1, 2, 3, 0] rfl)
  have eN : 2 ^ b = (z + 2 ^ b - (z + 1)) + 1 := by omega
  have eZ : z + 1 + (z + 2 ^ b - (z + 1)) = z + 2 ^ b := by omega
  obtain ⟨_, ⟨qU, qN, qG, qP, qD, qL⟩, _, hct, hc⟩ := I
  have er : rc1 = qf_H G := by
    have k1 := qf_ct_per qU (z + 1)
    rw [qf_ct_cut _ _ _ _ _ eN, eZ, ← j1, qf_ct_1, hzN, hct] at k1
    exact k1
  subst er
  have ec : ∀ q, qf_ct (fun i => rd1 i == q) 0 (qf_H G) = c q := fun q => by
    have k1 := qf_ct_per (P := (fun x => qf_pe (2 ^ b) (qf_U G) x && (qf_PR (2 ^ b) (2 ^ (8 - b)) D (qf_pe (2 ^ b) (qf_L G)) x == q))) (qf_PP_per q qU qD qL) (z + 1)
    rw [qf_ct_cut (fun x => qf_pe (2 ^ b) (qf_U G) x && (qf_PR (2 ^ b) (2 ^ (8 - b)) D (qf_pe (2 ^ b) (qf_L G)) x == q)) _ _ _ _ eN, eZ, ← j2 q, qf_ct_1, ← hc q] at k1
    rw [← k1]
    show _ = _ + (if (qf_pe (2 ^ b) (qf_U G) (z + 2 ^ b) && _) = true then 1 else 0)
    rw [hzN]; rfl
  exact W.vret S.1 S.2.1 hr (fun t ht hW => ⟨⟨_, rfl, ⟨rd1, rfl, ec, j3⟩, by unfold qf_Bt; rw [ht]; exact hP⟩, hS.F ht⟩) hS.2.2 dX0_readAll_67
section QRA2
variable {p : Program} {l : Launch} {e : Env} {R : Room} {s : State} {m : MethodId} {args : Array Value} {below : List Frame} {meth : Method} {c : Code} {H H0 : Heap} {locs : List Loc} {cells slots : Nat} {Q : State → Prop} {cc : ByteArray} {pc nL : Nat} {ls : Array Slot} {rest : List Value} {g : Nat → Nat} {dC : Nat → ClassId} {dI : Nat → Nat → Nat} {dA : Nat → ClassId} {F : Nat → qf_FS} {f b : Nat} {G : qf_FS} {rc : Nat} {rd : Nat → Nat} {u : qf_QS}
theorem yc_readAll {c1 : Nat → Nat} (S : CallFix p m c cc nL s args lw_all RX0) (hK : va_K (dC, dI) qf_cl (qf_tys dA) s) (hP : va_P (dC, dI) qf_cl (qf_w g dA (va_up F f G, rc, rd)) H) (hS : va_S (qf_A g) H0 H locs) (hg : qf_dj g) (hf : f < 2) (hI : qf_inv b G c1) (hR : qf_RM R 5 (8 + (4 + 11) + 92)) (hsz : ls.size = nL) (hroom : (rest.map fun v => v.category).sum ≤ 8) (hdg : decode cc pc = .ok (.invokevirtual 55, 3)) (kk : ∀ (rd1 : Nat → Nat) (H1 : Heap) (locs1 : List Loc), (∀ q, qf_ct (fun i => rd1 i == q) 0 (qf_H G) = c1 q) → (∀ i, i < qf_H G → rd1 i < 256) → va_P (dC, dI) qf_cl (qf_w g dA (va_up F f G, qf_H G, rd1)) H1 → va_S (qf_A g) H0 H1 locs1 → W p l e R s m args below meth c H1 locs1 0 0 Q (F0 m (pc + 3) ls rest)) : W p l e R s m args below meth c H locs 0 0 Q (F0 m pc ls (.int (nI f) :: .ref (g 0) :: rest)) :=
  qf_callv S hK hP hS (fun _ h => h) (met_readAll l dC dI dA g F f G rc rd b c1 hf hg hI) (lw_V q156 q158 qs16 q21 q159) rfl rfl (by decide +kernel) hR (n := 1) rfl hsz hroom hdg ⟨Nat.zero_le _, Nat.zero_le _⟩ (As := [.int (nI f)]) rfl (fun u1 H1 locs1 h1 h2 h3 _ _ => by
    obtain ⟨rd1, e1, a1, a2⟩ := h1
    exact kk rd1 H1 locs1 a1 a2 (by rw [← e1]; exact h2) h3)
end QRA2
end
section
/-! what takeOut and resize need: stretches, sums -/
theorem qf_last {P : Nat → Bool} {z0 : Nat} (hz : P z0 = false) : ∀ (n x : Nat), x ≤ z0 + n → z0 ≤ x → ∃ z, z0 ≤ z ∧ z ≤ x ∧ P z = false ∧ ∀ t, z < t → t ≤ x → P t = true := by
  intro n
  induction n with
  | zero =>
    intro x h1 h2
    have e : x = z0 := by omega
    subst e
    exact ⟨x, Nat.le_refl _, Nat.le_refl _, hz, fun t t1 t2 => by omega⟩
  | succ n ih =>
    intro x h1 h2
    cases hx : P x with
    | false => exact ⟨x, h2, Nat.le_refl _, hx, fun t t1 t2 => by omega⟩
    | true =>
      have hne : x ≠ z0 := fun e => by rw [e, hz] at hx; cases hx
      obtain ⟨z, a1, a2, a3, a4⟩ := ih (x - 1) (by omega) (by omega)
      refine ⟨z, a1, by omega, a3, fun t t1 t2 => ?_⟩
      rcases Nat.eq_or_lt_of_le t2 with q | q
      · rw [q]; exact hx
      · exact a4 t t1 (by omega)
/-- the stretch around a fingerprint that is there -/
theorem qf_inv_to {b : Nat} {G : qf_FS} {c : Nat → Nat} (h : qf_inv b G c) {y : Nat} (hy : y < 256) (hc : 0 < c y) :
    ∃ (D : Nat → Nat) (z Q e1x : Nat), Q % 2 ^ b = y / 2 ^ (8 - b) ∧ z < Q ∧ (∀ t, z < t → t ≤ Q → qf_U G (t % 2 ^ b) = true) ∧ qf_U G (z % 2 ^ b) = false ∧ z + 1 ≤ e1x ∧ e1x ≤ z + 2 ^ b ∧ Q < e1x ∧ (∀ t, z + 1 ≤ t → t < e1x → qf_U G (t % 2 ^ b) = true) ∧ qf_U G (e1x % 2 ^ b) = false ∧ qf_RD (qf_pe (2 ^ b) (qf_N G)) (qf_pe (2 ^ b) (qf_O G)) (qf_pe (2 ^ b) (qf_P G)) (fun t => t - D t) (2 ^ b) (z + 1) e1x ∧
      (∀ x, z < x → x < e1x → (x - D x) % 2 ^ b * 2 ^ (8 - b) + qf_L G (x % 2 ^ b) = qf_PR (2 ^ b) (2 ^ (8 - b)) D (qf_pe (2 ^ b) (qf_L G)) x) ∧
      qf_Iv (2 ^ b) (2 ^ (8 - b)) (qf_pe (2 ^ b) (qf_U G)) (qf_pe (2 ^ b) (qf_N G)) (qf_pe (2 ^ b) (qf_O G)) (qf_pe (2 ^ b) (qf_P G)) D (qf_pe (2 ^ b) (qf_L G)) (qf_H G) c := by
  obtain ⟨z0, z1, z2⟩ := qf_inv_free h
  have h0 := h
  obtain ⟨hb, hGb, hH, D, I⟩ := h
  have hN := qf_bk_pos hb
  obtain ⟨Q, Q1, Q2, Q3⟩ := qf_win z1 (qf_slot_lt hb hy)
  have hn : qf_N G (y / 2 ^ (8 - b)) = true := by
    cases hh : qf_N G (y / 2 ^ (8 - b)) with
    | true => rfl
    | false =>
      have := (qf_inv_tm h0 hy).1 hh
      omega
  have hz0 : qf_pe (2 ^ b) (qf_U G) z0 = false := by rw [qf_pe_at _ z1]; exact z2
  have uQ : qf_pe (2 ^ b) (qf_U G) Q = true := I.1.nm_u (by show qf_N G (Q % 2 ^ b) = true; rw [Q1]; exact hn)
  obtain ⟨z, a1, a2, a3, a4⟩ := qf_last hz0 Q Q (by omega) (by omega)
  have hzQ : z < Q := by
    rcases Nat.eq_or_lt_of_le a2 with r | r
    · rw [r, uQ] at a3; cases a3
    · exact r
  have hzN : qf_pe (2 ^ b) (qf_U G) (z + 2 ^ b) = false := by rw [qf_pe_per]; exact a3
  obtain ⟨e1x, f1, f2, f3, f4⟩ := qf_first' (P := qf_pe (2 ^ b) (qf_U G)) (a := z + 1) (b := z + 2 ^ b) (by omega) hzN
  have hQe : Q < e1x := by
    rcases Nat.lt_or_ge Q e1x with r | r
    · exact r
    · have := a4 e1x (by omega) r
      rw [f4] at this; cases this
  exact ⟨D, z, Q, e1x, Q1, hzQ, a4, a3, f1, f2, hQe, f3, f4, qf_RD_of I.1 a3 (by omega) (by rw [Nat.add_sub_cancel]; exact a3) f3, fun x q1 q2 => by
    have d := qf_dz I.1 a3 (x := x) q1 (f3 x (by omega) q2)
    exact (qf_PR_own (N := 2 ^ b) (R := 2 ^ (8 - b)) (D := D) (L := qf_pe (2 ^ b) (qf_L G)) (x := x) (by omega) (by omega)).symm, I⟩
/-- behind the freeing of that stretch -/
theorem qf_inv_fre {b : Nat} {G G1 : qf_FS} {c : Nat → Nat} {D : Nat → Nat} {z e1x Q y : Nat} (hb : qf_bk b) (hy : y < 256) (hH : qf_H G < 2 ^ b) (hQ : Q % 2 ^ b = y / 2 ^ (8 - b)) (hzQ : z < Q) (hz : qf_U G (z % 2 ^ b) = false) (he1 : z + 1 ≤ e1x) (he2 : e1x ≤ z + 2 ^ b) (hQe : Q < e1x) (hu : ∀ t, z + 1 ≤ t → t < e1x → qf_U G (t % 2 ^ b) = true) (hue : qf_U G (e1x % 2 ^ b) = false)
    (I : qf_Iv (2 ^ b) (2 ^ (8 - b)) (qf_pe (2 ^ b) (qf_U G)) (qf_pe (2 ^ b) (qf_N G)) (qf_pe (2 ^ b) (qf_O G)) (qf_pe (2 ^ b) (qf_P G)) D (qf_pe (2 ^ b) (qf_L G)) (qf_H G) c)
    (gB : qf_B G1 = b) (gL : qf_L G1 = qf_L G) (g1 : ∀ t, z < t → t < e1x → qf_N G1 (t % 2 ^ b) = false ∧ qf_O G1 (t % 2 ^ b) = false ∧ qf_P G1 (t % 2 ^ b) = false) (g2 : ∀ x, (∀ t, z < t → t < e1x → x ≠ t % 2 ^ b) → qf_N G1 x = qf_N G x ∧ qf_O G1 x = qf_O G x ∧ qf_P G1 x = qf_P G x) :
    e1x - (z + 1) ≤ qf_H G ∧ ∃ c1, qf_inv b (qf_setH G1 (qf_H G - (e1x - (z + 1)))) c1 ∧ (∀ p, c p = c1 p + qf_ct (fun x => qf_PR (2 ^ b) (2 ^ (8 - b)) D (qf_pe (2 ^ b) (qf_L G)) x == p) (z + 1) (e1x - (z + 1))) ∧ c1 y = 0 := by
  have hN := qf_bk_pos hb
  obtain ⟨c1, held1, I1, k1, k2, k3⟩ := qf_fre (U' := qf_pe (2 ^ b) (qf_U G1)) (Nm' := qf_pe (2 ^ b) (qf_N G1)) (Go' := qf_pe (2 ^ b) (qf_O G1)) (Pu' := qf_pe (2 ^ b) (qf_P G1)) (z := z) (b := e1x) hN I hz (by omega) he2 (fun t t1 t2 => hu t (by omega) t2) hue
    (fun x => qf_pe_per _ _ x) (fun x => qf_pe_per _ _ x) (fun x => qf_pe_per _ _ x) (fun x => rfl) (fun x x1 x2 => g1 x x1 x2) (fun x x1 x2 => g2 (x % 2 ^ b) (fun t t1 t2 r => by
      have := qf_win_inj (N := 2 ^ b) (z := z) r (by omega) x2 t1 (by omega)
      omega))
  have eh : qf_H G - (e1x - (z + 1)) = held1 := by omega
  refine ⟨by omega, c1, ⟨hb, gB, ?_, D, ?_⟩, k2, ?_⟩
  · show qf_H G - (e1x - (z + 1)) < 2 ^ b
    omega
  · show qf_Iv (2 ^ b) (2 ^ (8 - b)) (qf_pe (2 ^ b) (qf_U G1)) (qf_pe (2 ^ b) (qf_N G1)) (qf_pe (2 ^ b) (qf_O G1)) (qf_pe (2 ^ b) (qf_P G1)) D (qf_pe (2 ^ b) (qf_L G1)) (qf_H G - (e1x - (z + 1))) c1
    rw [eh, gL]
    exact I1
  · have := k3 Q (y % 2 ^ (8 - b)) hzQ hQe (qf_low_lt hb y)
    rw [hQ, qf_pr_join] at this
    exact this
/-- how many were read: the sum over all fingerprints -/
theorem qf_sm_rd {rd : Nat → Nat} {n : Nat} (h : ∀ i, i < n → rd i < 256) : qf_sm (fun p => qf_ct (fun i => rd i == p) 0 n) 256 = n := by
  have a := qf_sm_ct (fun _ => true) rd 0 n 256
  have e : (fun p => qf_ct (fun x => true && (rd x == p)) 0 n) = fun p => qf_ct (fun i => rd i == p) 0 n := by
    funext p
    exact qf_ct_sh (fun i _ => Bool.true_and _)
  rw [e] at a
  rw [a]
  exact qf_ct_all (fun i hi => by
    show (true && decide (rd (0 + i) < 256)) = true
    rw [Bool.true_and, Nat.zero_add]
    exact decide_eq_true (h i hi))
theorem qf_inv_cnt {b : Nat} {G : qf_FS} {rd : Nat → Nat} {n : Nat} (h : qf_inv b G (fun p => qf_ct (fun i => rd i == p) 0 n)) (hr : ∀ i, i < n → rd i < 256) : qf_H G = n := by
  have a := qf_inv_sum h
  rw [qf_sm_rd hr] at a
  exact a.symm
theorem qf_ct_next (rd : Nat → Nat) (p i : Nat) : qf_ct (fun i => rd i == p) 0 (i + 1) = qf_ct (fun i => rd i == p) 0 i + if rd i = p then 1 else 0 := by
  show qf_ct (fun i => rd i == p) 0 i + (if (rd (0 + i) == p) = true then 1 else 0) = _
  rw [Nat.zero_add]
  simp only [beq_iff_eq]
/-- sums while all but one are put back -/
theorem qf_sum_eq {ci c1 : Nat → Nat} {rd : Nat → Nat} {i y : Nat} {gone : Bool} (hy : y < 256) (hr : ∀ j, j < i → rd j < 256) (h : ∀ p, ci p + (if gone = true ∧ y = p then 1 else 0) = c1 p + qf_ct (fun i => rd i == p) 0 i) : qf_sm ci 256 + (if gone = true then 1 else 0) = qf_sm c1 256 + i := by
  have a : qf_sm (fun p => ci p + (if gone = true ∧ y = p then 1 else 0)) 256 = qf_sm (fun p => c1 p + qf_ct (fun i => rd i == p) 0 i) 256 := qf_sm_eq (fun p _ => h p)
  rw [qf_sm_add, qf_sm_add, qf_sm_rd hr] at a
  rw [← a]
  congr 1
  cases gone with
  | false =>
    have e : (fun p => if false = true ∧ y = p then 1 else 0) = fun _ : Nat => 0 := by funext p; simp
    rw [e, qf_sm_0]; rfl
  | true =>
    have e : (fun p => if true = true ∧ y = p then 1 else 0) = fun p : Nat => if y = p then 1 else 0 := by funext p; simp
    rw [e, qf_sm_one, if_pos hy]; rfl
end
section
/-! resize and takeOut -/
section QRZ
variable {p : Program} {l : Launch} {e : Env} {R : Room} {s : State} {m : MethodId} {args : Array Value} {below : List Frame} {meth : Method} {c : Code} {H H0 : Heap} {locs : List Loc} {cells slots : Nat} {Q : State → Prop} {cc : ByteArray} {pc nL : Nat} {ls : Array Slot} {rest : List Value} {g : Nat → Nat} {dC : Nat → ClassId} {dI : Nat → Nat → Nat} {dA : Nat → ClassId} {F : Nat → qf_FS} {f b : Nat} {G : qf_FS} {rc : Nat} {rd : Nat → Nat} {u : qf_QS}
set_option maxHeartbeats 4000000 in
set_option maxRecDepth 100000 in
theorem rz_loop (S : CallFix p m c cX0_resize 4 s args lw_all RX0) (hK : va_K (dC, dI) qf_cl (qf_tys dA) s) (hf : f < 2) (hB : qf_bk b) (hR : qf_RM R 5 115) (hg : qf_dj g) {hc : Nat} (hc1 : hc < 2 ^ b) (hc2 : hc < 64) (hrd : ∀ i, i < hc → rd i < 256) (kk : ∀ (G : qf_FS) (H : Heap) (locs : List Loc) (ls : Array Slot), qf_inv b G (fun p => qf_ct (fun i => rd i == p) 0 hc) → va_P (dC, dI) qf_cl (qf_w g dA (va_up F f G, hc, rd)) H → va_S (qf_A g) H0 H locs → W p l e R s m args below meth c H locs 0 0 Q (F0 m 45 ls [])) :
    ∀ (n i : Nat) (G : qf_FS) (H : Heap) (locs : List Loc), hc = i + n → qf_inv b G (fun p => qf_ct (fun i => rd i == p) 0 i) → va_P (dC, dI) qf_cl (qf_w g dA (va_up F f G, hc, rd)) H → va_S (qf_A g) H0 H locs → ∀ ls, lv_has ls 4 [(0, .ref (g 0)), (1, .int (nI f)), (3, .int (nI i))] → W p l e R s m args below meth c H locs 0 0 Q (F0 m 20 ls []) := by
  intro n
  induction n using Nat.strongRecOn with
  | ind n ih =>
    intro i G H locs hi hI hP hS ls hl
    refine lv_iload_n S.1 S.2.1 dX0_resize_20 rfl (lv_at hl 2 rfl) ?_
    refine lv_aload_n S.1 S.2.1 dX0_resize_21 rfl (lv_at hl 0 rfl) ?_
    refine xg_C S hK hP dX0_resize_22 ?_
    refine qf_top (y := nI hc) rfl ?_
    refine qf_icmpge (tgt := 45) S.1 S.2.1 (by omega) (by omega) dX0_resize_25 (by decide) (fun h1 => ?_) (fun h1 => ?_)
    · have e1 : i = hc := by omega
      subst e1
      exact kk G H locs ls hI hP hS
    · have eH : qf_H G = i := qf_inv_cnt hI (fun j hj => hrd j (by omega))
      refine lv_aload_n S.1 S.2.1 dX0_resize_28 rfl (lv_at hl 0 rfl) ?_
      refine lv_iload_n S.1 S.2.1 dX0_resize_29 rfl (lv_at hl 1 rfl) ?_
      refine lv_aload_n S.1 S.2.1 dX0_resize_30 rfl (lv_at hl 0 rfl) ?_
      refine xg_D S hK hP dX0_resize_31 ?_
      refine lv_iload_n S.1 S.2.1 dX0_resize_34 rfl (lv_at hl 2 rfl) ?_
      refine xl_D S hK hP (by omega) dX0_resize_35 ?_
      refine qf_top (y := nI (rd i)) rfl ?_
      refine yc_insert S hK hP hS hg hf hI (hrd i h1) (by omega) (hR.le (by decide) (by decide)) hl.1 (Nat.le_of_ble_eq_true rfl) dX0_resize_36 (fun G1 H locs hI1 hP hS => ?_)
      refine lv_iinc (v := nI (i + 1)) (lv' := [(3, .int (nI (i + 1))), (0, .ref (g 0)), (1, .int (nI f))]) S.1 S.2.1 dX0_resize_39 hl (k := 2) rfl (nI_1 _) (by decide) rfl (fun ls hl => ?_)
      refine lv_goto (tgt := 20) S.1 S.2.1 dX0_resize_42 (by decide) ?_
      exact ih (n - 1) (by omega) (i + 1) G1 H locs (by omega) (qf_inv_of hI1 (fun p => (qf_ct_next rd p i).symm)) hP hS ls (lv_sub hl [1, 2, 0] rfl)
end QRZ
set_option maxHeartbeats 4000000 in
set_option maxRecDepth 100000 in
/-- resize: the same fingerprints over b2 bits -/
theorem met_resize (l : Launch) (dC : Nat → ClassId) (dI : Nat → Nat → Nat) (dA : Nat → ClassId) (g : Nat → Nat) (F : Nat → qf_FS) (f : Nat) (G : qf_FS) (rc : Nat) (rd : Nat → Nat) (b b2 : Nat) (c : Nat → Nat) (hf : f < 2) (hg : qf_dj g) (hI : qf_inv b G c) (hB2 : qf_bk b2) (hfit : qf_H G < 2 ^ b2) : Met l yX0_resize (ws_ yX0_resize cX0_resize 4 none) ({ frames := 5, cells := 0, slots := 0, locals := 115 }) (qf_Pc g dA dC dI (va_up F f G, rc, rd) [.int (nI f), .int (nI b2)]) (va_Qv (fun u => ∃ (G1 : qf_FS) (rc1 : Nat) (rd1 : Nat → Nat), u = (va_up F f G1, rc1, rd1) ∧ qf_inv b2 G1 c) (qf_Bt g dA dC dI) (qf_A g)) 0 0 (qf_A g) := by
  refine qf_met (by decide) rfl (Nat.le_of_ble_eq_true rfl) ?_
  intro p e s m below meth c' ls S hr hlocks hP hK hl
  have hR : qf_RM ({ frames := 5, cells := 0, slots := 0, locals := 115 }) 5 115 := ⟨Nat.le_refl _, Nat.le_refl _⟩
  have hb2 : b2 < 128 := by have := hB2.2; omega
  have hl : lv_has ls 4 [(0, .ref (g 0)), (1, .int (nI f)), (2, .int (nI b2))] := hl
  have hS : va_S (qf_A g) s.heap s.heap [] := va_S.rf
  refine lv_aload_n S.1 S.2.1 dX0_resize_0 rfl (lv_at hl 0 rfl) ?_
  refine lv_iload_n S.1 S.2.1 dX0_resize_1 rfl (lv_at hl 1 rfl) ?_
  refine yc_readAll S hK hP hS hg hf hI (hR.le (by decide) (by decide)) hl.1 (Nat.le_of_ble_eq_true rfl) dX0_resize_2 (fun rd1 H locs j1 j2 hP hS => ?_)
  refine lv_aload_n S.1 S.2.1 dX0_resize_5 rfl (lv_at hl 0 rfl) ?_
  refine lv_iload_n S.1 S.2.1 dX0_resize_6 rfl (lv_at hl 1 rfl) ?_
  refine yc_empty S hK hP hS hg hf (hR.le (by decide) (by decide)) hl.1 (Nat.le_of_ble_eq_true rfl) dX0_resize_7 (fun G1 H locs k1 k2 k3 hP hS => ?_)
  refine lv_aload_n S.1 S.2.1 dX0_resize_10 rfl (lv_at hl 0 rfl) ?_
  refine xg_B S hK hP dX0_resize_11 ?_
  refine lv_iload_n S.1 S.2.1 dX0_resize_14 rfl (lv_at hl 1 rfl) ?_
  refine lv_iload_n S.1 S.2.1 dX0_resize_15 rfl (lv_at hl 2 rfl) ?_
  refine lv_i2b (v := nI b2) S.1 S.2.1 dX0_resize_16 (qf_byte hb2) ?_
  refine ys_B S hK hP hg hS rfl hb2 hf dX0_resize_17 (fun H locs hP hS => ?_)
  refine lv_iconst (v := nI 0) S.1 S.2.1 dX0_resize_18 (by decide) ?_
  refine lv_istore_n (lv' := [(3, .int (nI 0)), (0, .ref (g 0)), (1, .int (nI f)), (2, .int (nI b2))]) S.1 S.2.1 dX0_resize_19 rfl hl (by decide) rfl (fun ls hl => ?_)
  have hI0 : qf_inv b2 (qf_setB G1 b2) (fun _ => 0) := qf_inv_empty hB2 rfl k2 k3
  refine rz_loop S hK hf hB2 hR hg (H0 := s.heap) (hc := qf_H G) hfit (qf_inv_lt hI) j2 (fun G2 H locs ls hI2 hP hS => ?_) (qf_H G) 0 (qf_setB G1 b2) H locs (by omega) hI0 hP hS ls (lv_sub hl [1, 2, 0] rfl)
  exact W.vret S.1 S.2.1 hr (fun t ht hW => ⟨⟨_, rfl, ⟨G2, _, _, rfl, qf_inv_of hI2 j1⟩, by unfold qf_Bt; rw [ht]; exact hP⟩, hS.F ht⟩) hS.2.2 dX0_resize_45
section QRZ2
variable {p : Program} {l : Launch} {e : Env} {R : Room} {s : State} {m : MethodId} {args : Array Value} {below : List Frame} {meth : Method} {c : Code} {H H0 : Heap} {locs : List Loc} {cells slots : Nat} {Q : State → Prop} {cc : ByteArray} {pc nL : Nat} {ls : Array Slot} {rest : List Value} {g : Nat → Nat} {dC : Nat → ClassId} {dI : Nat → Nat → Nat} {dA : Nat → ClassId} {F : Nat → qf_FS} {f b : Nat} {G : qf_FS} {rc : Nat} {rd : Nat → Nat} {u : qf_QS}
theorem yc_resize {b2 : Nat} {c1 : Nat → Nat} (S : CallFix p m c cc nL s args lw_all RX0) (hK : va_K (dC, dI) qf_cl (qf_tys dA) s) (hP : va_P (dC, dI) qf_cl (qf_w g dA (va_up F f G, rc, rd)) H) (hS : va_S (qf_A g) H0 H locs) (hg : qf_dj g) (hf : f < 2) (hI : qf_inv b G c1) (hB2 : qf_bk b2) (hfit : qf_H G < 2 ^ b2) (hR : qf_RM R 6 (8 + (4 + 11) + 115)) (hsz : ls.size = nL) (hroom : (rest.map fun v => v.category).sum ≤ 8) (hdg : decode cc pc = .ok (.invokevirtual 63, 3)) (kk : ∀ (G1 : qf_FS) (rc1 : Nat) (rd1 : Nat → Nat) (H1 : Heap) (locs1 : List Loc), qf_inv b2 G1 c1 → va_P (dC, dI) qf_cl (qf_w g dA (va_up F f G1, rc1, rd1)) H1 → va_S (qf_A g) H0 H1 locs1 → W p l e R s m args below meth c H1 locs1 0 0 Q (F0 m (pc + 3) ls rest)) : W p l e R s m args below meth c H locs 0 0 Q (F0 m pc ls (.int (nI b2) :: .int (nI f) :: .ref (g 0) :: rest)) :=
  qf_callv S hK hP hS (fun _ h => h) (met_resize l dC dI dA g F f G rc rd b b2 c1 hf hg hI hB2 hfit) (lw_V q164 q166 qs17 q21 q167) rfl rfl (by decide +kernel) hR (n := 2) rfl hsz hroom hdg ⟨Nat.zero_le _, Nat.zero_le _⟩ (As := [.int (nI f), .int (nI b2)]) rfl (fun u1 H1 locs1 h1 h2 h3 _ _ => by
    obtain ⟨G1, rc1, rd1, e1, a1⟩ := h1
    exact kk G1 rc1 rd1 H1 locs1 a1 (by rw [← e1]; exact h2) h3)
end QRZ2
section QTO
variable {p : Program} {l : Launch} {e : Env} {R : Room} {s : State} {m : MethodId} {args : Array Value} {below : List Frame} {meth : Method} {c : Code} {H H0 : Heap} {locs : List Loc} {cells slots : Nat} {Q : State → Prop} {cc : ByteArray} {pc nL : Nat} {ls : Array Slot} {rest : List Value} {g : Nat → Nat} {dC : Nat → ClassId} {dI : Nat → Nat → Nat} {dA : Nat → ClassId} {F : Nat → qf_FS} {f b : Nat} {G : qf_FS} {rc : Nat} {rd : Nat → Nat} {u : qf_QS}
set_option maxHeartbeats 4000000 in
set_option maxRecDepth 100000 in
theorem to_loop1 (S : CallFix p m c cX0_takeOut 8 s args lw_all RX0) (hK : va_K (dC, dI) qf_cl (qf_tys dA) s) (hf : f < 2) (hB : qf_bk b) (hR : qf_RM R 4 106) (hP : va_P (dC, dI) qf_cl (qf_w g dA (va_up F f G, rc, rd)) H) (hGb : qf_B G = b) {q2 : Int32} {z : Nat} (hz : qf_U G (z % 2 ^ b) = false) (kk : ∀ ls, lv_has ls 8 [(0, .ref (g 0)), (1, .int (nI f)), (2, .int q2), (4, .int (nI (z % 2 ^ b)))] → W p l e R s m args below meth c H locs 0 0 Q (F0 m 32 ls [])) :
    ∀ (n x : Nat), x = z + n → (∀ t, z < t → t ≤ x → qf_U G (t % 2 ^ b) = true) → ∀ ls, lv_has ls 8 [(0, .ref (g 0)), (1, .int (nI f)), (2, .int q2), (4, .int (nI (x % 2 ^ b)))] → W p l e R s m args below meth c H locs 0 0 Q (F0 m 10 ls []) := by
  intro n
  induction n using Nat.strongRecOn with
  | ind n ih =>
    intro x hx hal ls hl
    refine lv_aload_n S.1 S.2.1 dX0_takeOut_10 rfl (lv_at hl 0 rfl) ?_
    refine lv_iload_n S.1 S.2.1 dX0_takeOut_11 rfl (lv_at hl 1 rfl) ?_
    refine lv_iload S.1 S.2.1 dX0_takeOut_12 (lv_at hl 3 rfl) ?_
    refine yc_isFree S hK hP hf (qf_bk_s hB _) (hR.le (by decide) (by decide)) hl.1 (Nat.le_of_ble_eq_true rfl) dX0_takeOut_14 ?_
    refine qf_ifne (tgt := 32) S.1 S.2.1 dX0_takeOut_17 (by decide) (fun h1 => ?_) (fun h1 => ?_)
    · have h2 : qf_U G (x % 2 ^ b) = false := by simpa using h1
      have e1 : x = z := by
        rcases Nat.eq_zero_or_pos n with q | q
        · omega
        · have := hal x (by omega) (Nat.le_refl _)
          rw [h2] at this; cases this
      rw [e1] at hl
      exact kk ls hl
    · have h2 : qf_U G (x % 2 ^ b) = true := by simpa using h1
      have hn : n ≠ 0 := fun q => by
        have e1 : x = z := by omega
        rw [e1, hz] at h2; cases h2
      obtain ⟨x, rfl⟩ : ∃ x1, x = x1 + 1 := ⟨x - 1, by omega⟩
      refine lv_aload_n S.1 S.2.1 dX0_takeOut_20 rfl (lv_at hl 0 rfl) ?_
      refine lv_iload_n S.1 S.2.1 dX0_takeOut_21 rfl (lv_at hl 1 rfl) ?_
      refine lv_iload S.1 S.2.1 dX0_takeOut_22 (lv_at hl 3 rfl) ?_
      refine yc_before (x := x) S hK hP hf hGb hB (hR.le (by decide) (by decide)) hl.1 (Nat.le_of_ble_eq_true rfl) dX0_takeOut_24 ?_
      refine lv_istore (lv' := [(4, .int (nI (x % 2 ^ b))), (0, .ref (g 0)), (1, .int (nI f)), (2, .int q2)]) S.1 S.2.1 dX0_takeOut_27 hl (by decide) rfl (fun ls hl => ?_)
      refine lv_goto (tgt := 10) S.1 S.2.1 dX0_takeOut_29 (by decide) ?_
      exact ih (n - 1) (by omega) x (by omega) (fun t t1 t2 => hal t t1 (by omega)) ls (lv_sub hl [1, 2, 3, 0] rfl)
set_option maxHeartbeats 4000000 in
set_option maxRecDepth 100000 in
theorem to_loop2 (S : CallFix p m c cX0_takeOut 8 s args lw_all RX0) (hK : va_K (dC, dI) qf_cl (qf_tys dA) s) (hf : f < 2) (hB : qf_bk b) (hR : qf_RM R 4 106) (hg : qf_dj g) {q2 : Int32} {z e1x : Nat} {G0 : qf_FS} (he2 : e1x ≤ z + 2 ^ b) (kk : ∀ (G : qf_FS) (H : Heap) (locs : List Loc) (ls : Array Slot), qf_B G = b → qf_H G = qf_H G0 → qf_L G = qf_L G0 → (∀ t3, z < t3 → t3 < e1x → qf_N G (t3 % 2 ^ b) = false ∧ qf_O G (t3 % 2 ^ b) = false ∧ qf_P G (t3 % 2 ^ b) = false) → (∀ x, (∀ t3, z < t3 → t3 < e1x → x ≠ t3 % 2 ^ b) → qf_N G x = qf_N G0 x ∧ qf_O G x = qf_O G0 x ∧ qf_P G x = qf_P G0 x) → va_P (dC, dI) qf_cl (qf_w g dA (va_up F f G, rc, rd)) H → va_S (qf_A g) H0 H locs → lv_has ls 8 [(0, .ref (g 0)), (1, .int (nI f)), (2, .int q2)] → W p l e R s m args below meth c H locs 0 0 Q (F0 m 81 ls [])) :
    ∀ (n t : Nat) (G : qf_FS) (H : Heap) (locs : List Loc), e1x = t + n → z < t → t ≤ e1x → qf_B G = b → qf_H G = qf_H G0 → qf_L G = qf_L G0 → (∀ t3, z < t3 → t3 < t → qf_N G (t3 % 2 ^ b) = false ∧ qf_O G (t3 % 2 ^ b) = false ∧ qf_P G (t3 % 2 ^ b) = false) → (∀ x, (∀ t3, z < t3 → t3 < t → x ≠ t3 % 2 ^ b) → qf_N G x = qf_N G0 x ∧ qf_O G x = qf_O G0 x ∧ qf_P G x = qf_P G0 x) → va_P (dC, dI) qf_cl (qf_w g dA (va_up F f G, rc, rd)) H → va_S (qf_A g) H0 H locs → ∀ ls, lv_has ls 8 [(0, .ref (g 0)), (1, .int (nI f)), (2, .int q2), (5, .int (nI (e1x % 2 ^ b))), (6, .int (nI (t % 2 ^ b)))] → W p l e R s m args below meth c H locs 0 0 Q (F0 m 55 ls []) := by
  intro n
  induction n using Nat.strongRecOn with
  | ind n ih =>
    intro t G H locs hn t1 t2 gB gH gL g1 g2 hP hS ls hl
    refine lv_iload S.1 S.2.1 dX0_takeOut_55 (lv_at hl 4 rfl) ?_
    refine lv_iload S.1 S.2.1 dX0_takeOut_57 (lv_at hl 3 rfl) ?_
    refine qf_icmpeq (tgt := 81) S.1 S.2.1 (Nat.lt_trans (qf_bk_s hB _) (by decide)) (Nat.lt_trans (qf_bk_s hB _) (by decide)) dX0_takeOut_59 (by decide) (fun h1 => ?_) (fun h1 => ?_)
    · have e1 : t = e1x := qf_win_inj (N := 2 ^ b) (z := z) h1 t1 (by omega) (by omega) he2
      subst e1
      exact kk G H locs ls gB gH gL g1 g2 hP hS (lv_sub hl [0, 1, 2] rfl)
    · have hlt : t < e1x := by
        rcases Nat.eq_or_lt_of_le t2 with r | r
        · exact absurd (by rw [r]) h1
        · exact r
      refine lv_aload_n S.1 S.2.1 dX0_takeOut_62 rfl (lv_at hl 0 rfl) ?_
      refine lv_iload_n S.1 S.2.1 dX0_takeOut_63 rfl (lv_at hl 1 rfl) ?_
      refine lv_iload S.1 S.2.1 dX0_takeOut_64 (lv_at hl 4 rfl) ?_
      refine yc_free S hK hP hS hg hf (qf_bk_s hB t) (hR.le (by decide) (by decide)) hl.1 (Nat.le_of_ble_eq_true rfl) dX0_takeOut_66 (fun H locs hP hS => ?_)
      have hGb := gB
      refine lv_aload_n S.1 S.2.1 dX0_takeOut_69 rfl (lv_at hl 0 rfl) ?_
      refine lv_iload_n S.1 S.2.1 dX0_takeOut_70 rfl (lv_at hl 1 rfl) ?_
      refine lv_iload S.1 S.2.1 dX0_takeOut_71 (lv_at hl 4 rfl) ?_
      refine yc_after (x := t) S hK hP hf hGb hB (hR.le (by decide) (by decide)) hl.1 (Nat.le_of_ble_eq_true rfl) dX0_takeOut_73 ?_
      refine lv_istore (lv' := [(6, .int (nI ((t + 1) % 2 ^ b))), (0, .ref (g 0)), (1, .int (nI f)), (2, .int q2), (5, .int (nI (e1x % 2 ^ b)))]) S.1 S.2.1 dX0_takeOut_76 hl (by decide) rfl (fun ls hl => ?_)
      refine lv_goto (tgt := 55) S.1 S.2.1 dX0_takeOut_78 (by decide) ?_
      exact ih (n - 1) (by omega) (t + 1) (qf_fr G (t % 2 ^ b)) H locs (by omega) (by omega) (by omega) gB gH gL (fun t3 q1 q2 => by
        by_cases e1 : t3 = t
        · rw [e1]; exact qf_fr_s
        · obtain ⟨r1, r2, r3⟩ := qf_fr_n (G := G) (x := t % 2 ^ b) (t := t3 % 2 ^ b) (fun r => e1 (qf_win_inj (N := 2 ^ b) (z := z) r q1 (by omega) t1 (by omega)))
          rw [r1, r2, r3]
          exact g1 t3 q1 (by omega)) (fun x hx => by
        obtain ⟨r1, r2, r3⟩ := qf_fr_n (G := G) (x := t % 2 ^ b) (t := x) (hx t t1 (by omega))
        rw [r1, r2, r3]
        exact g2 x (fun t3 q1 q2 => hx t3 q1 (by omega))) hP hS ls (lv_sub hl [1, 2, 3, 4, 0] rfl)
set_option maxHeartbeats 4000000 in
set_option maxRecDepth 100000 in
theorem to_loop3 (S : CallFix p m c cX0_takeOut 8 s args lw_all RX0) (hK : va_K (dC, dI) qf_cl (qf_tys dA) s) (hf : f < 2) (hB : qf_bk b) (hR : qf_RM R 4 106) (hg : qf_dj g) {y : Nat} {c1 : Nat → Nat} (hy : y < 256) (hrc : rc < 64) (hrd : ∀ i, i < rc → rd i < 256) (hsz : qf_sm c1 256 + rc < 2 ^ b) (kk : ∀ (gone : Bool) (G : qf_FS) (ci : Nat → Nat) (H : Heap) (locs : List Loc) (ls : Array Slot), qf_inv b G ci → (∀ p, ci p + (if gone = true ∧ y = p then 1 else 0) = c1 p + qf_ct (fun i => rd i == p) 0 rc) → (gone = false → qf_ct (fun i => rd i == y) 0 rc = 0) → va_P (dC, dI) qf_cl (qf_w g dA (va_up F f G, rc, rd)) H → va_S (qf_A g) H0 H locs → W p l e R s m args below meth c H locs 0 0 Q (F0 m 150 ls [])) :
    ∀ (n i : Nat) (gone : Bool) (G : qf_FS) (ci : Nat → Nat) (H : Heap) (locs : List Loc), rc = i + n → qf_inv b G ci → (∀ p, ci p + (if gone = true ∧ y = p then 1 else 0) = c1 p + qf_ct (fun i => rd i == p) 0 i) → (gone = false → qf_ct (fun i => rd i == y) 0 i = 0) → va_P (dC, dI) qf_cl (qf_w g dA (va_up F f G, rc, rd)) H → va_S (qf_A g) H0 H locs → ∀ ls, lv_has ls 8 [(0, .ref (g 0)), (1, .int (nI f)), (2, .int (nI y)), (6, .int (qf_b gone)), (7, .int (nI i))] → W p l e R s m args below meth c H locs 0 0 Q (F0 m 101 ls []) := by
  intro n
  induction n using Nat.strongRecOn with
  | ind n ih =>
    intro i gone G ci H locs hn hI heq hg0 hP hS ls hl
    refine lv_iload S.1 S.2.1 dX0_takeOut_101 (lv_at hl 4 rfl) ?_
    refine lv_aload_n S.1 S.2.1 dX0_takeOut_103 rfl (lv_at hl 0 rfl) ?_
    refine xg_C S hK hP dX0_takeOut_104 ?_
    refine qf_top (y := nI rc) rfl ?_
    refine qf_icmpge (tgt := 150) S.1 S.2.1 (by omega) (by omega) dX0_takeOut_107 (by decide) (fun h1 => ?_) (fun h1 => ?_)
    · have e1 : i = rc := by omega
      subst e1
      exact kk gone G ci H locs ls hI heq hg0 hP hS
    · have hsum := qf_sum_eq hy (fun j hj => hrd j (by omega)) heq
      rw [qf_inv_sum hI] at hsum
      have ins : (gone = false → rd i ≠ y) → ∀ ls, lv_has ls 8 [(0, .ref (g 0)), (1, .int (nI f)), (2, .int (nI y)), (6, .int (qf_b gone)), (7, .int (nI i))] → W p l e R s m args below meth c H locs 0 0 Q (F0 m 132 ls []) := by
        intro hne ls hl
        have hful : qf_H G + 1 < 2 ^ b := by
          cases gone with
          | true => rw [if_pos rfl] at hsum; omega
          | false => rw [if_neg (by decide)] at hsum; omega
        refine lv_aload_n S.1 S.2.1 dX0_takeOut_132 rfl (lv_at hl 0 rfl) ?_
        refine lv_iload_n S.1 S.2.1 dX0_takeOut_133 rfl (lv_at hl 1 rfl) ?_
        refine lv_aload_n S.1 S.2.1 dX0_takeOut_134 rfl (lv_at hl 0 rfl) ?_
        refine xg_D S hK hP dX0_takeOut_135 ?_
        refine lv_iload S.1 S.2.1 dX0_takeOut_138 (lv_at hl 4 rfl) ?_
        refine xl_D S hK hP (by omega) dX0_takeOut_140 ?_
        refine qf_top (y := nI (rd i)) rfl ?_
        refine yc_insert S hK hP hS hg hf hI (hrd i h1) hful (hR.le (by decide) (by decide)) hl.1 (Nat.le_of_ble_eq_true rfl) dX0_takeOut_141 (fun G1 H locs hI1 hP hS => ?_)
        refine lv_iinc (v := nI (i + 1)) (lv' := [(7, .int (nI (i + 1))), (0, .ref (g 0)), (1, .int (nI f)), (2, .int (nI y)), (6, .int (qf_b gone))]) S.1 S.2.1 dX0_takeOut_144 hl (k := 4) rfl (nI_1 _) (by decide) rfl (fun ls hl => ?_)
        refine lv_goto (tgt := 101) S.1 S.2.1 dX0_takeOut_147 (by decide) ?_
        exact ih (n - 1) (by omega) (i + 1) gone G1 (fun p => ci p + if rd i = p then 1 else 0) H locs (by omega) hI1 (fun p => by
            have := heq p
            rw [qf_ct_next]
            show ci p + (if rd i = p then 1 else 0) + (if gone = true ∧ y = p then 1 else 0) = _
            omega) (fun hgf => by rw [qf_ct_next, hg0 hgf, if_neg (hne hgf)]) hP hS ls (lv_sub hl [1, 2, 3, 4, 0] rfl)
      refine lv_iload S.1 S.2.1 dX0_takeOut_110 (lv_at hl 3 rfl) ?_
      refine qf_ifne (tgt := 132) S.1 S.2.1 dX0_takeOut_112 (by decide) (fun h2 => ?_) (fun h2 => ?_)
      · exact ins (fun r => by rw [h2] at r; cases r) ls hl
      · refine lv_aload_n S.1 S.2.1 dX0_takeOut_115 rfl (lv_at hl 0 rfl) ?_
        refine xg_D S hK hP dX0_takeOut_116 ?_
        refine lv_iload S.1 S.2.1 dX0_takeOut_119 (lv_at hl 4 rfl) ?_
        refine xl_D S hK hP (by omega) dX0_takeOut_121 ?_
        refine qf_top (y := nI (rd i)) rfl ?_
        refine lv_iload_n S.1 S.2.1 dX0_takeOut_122 rfl (lv_at hl 2 rfl) ?_
        refine qf_icmpne (tgt := 132) S.1 S.2.1 (by have := hrd i h1; omega) (by omega) dX0_takeOut_123 (by decide) (fun h3 => ?_) (fun h3 => ?_)
        · exact ins (fun _ => h3) ls hl
        · refine lv_iconst (v := qf_b true) S.1 S.2.1 dX0_takeOut_126 (by decide) ?_
          refine lv_istore (lv' := [(6, .int (qf_b true)), (0, .ref (g 0)), (1, .int (nI f)), (2, .int (nI y)), (7, .int (nI i))]) S.1 S.2.1 dX0_takeOut_127 hl (by decide) rfl (fun ls hl => ?_)
          refine lv_goto (tgt := 144) S.1 S.2.1 dX0_takeOut_129 (by decide) ?_
          refine lv_iinc (v := nI (i + 1)) (lv' := [(7, .int (nI (i + 1))), (6, .int (qf_b true)), (0, .ref (g 0)), (1, .int (nI f)), (2, .int (nI y))]) S.1 S.2.1 dX0_takeOut_144 hl (k := 4) rfl (nI_1 _) (by decide) rfl (fun ls hl => ?_)
          refine lv_goto (tgt := 101) S.1 S.2.1 dX0_takeOut_147 (by decide) ?_
          exact ih (n - 1) (by omega) (i + 1) true G ci H locs (by omega) hI (fun p => by
            have := heq p
            rw [h2] at this
            simp only [Bool.false_eq_true, false_and, if_false] at this
            rw [qf_ct_next, h3]
            simp only [true_and]
            omega) (fun r => by cases r) hP hS ls (lv_sub hl [2, 3, 4, 1, 0] rfl)
end QTO
set_option maxHeartbeats 4000000 in
set_option maxRecDepth 100000 in
/-- takeOut: one less of a fingerprint that is there -/
theorem met_takeOut (l : Launch) (dC : Nat → ClassId) (dI : Nat → Nat → Nat) (dA : Nat → ClassId) (g : Nat → Nat) (F : Nat → qf_FS) (f : Nat) (G : qf_FS) (rc : Nat) (rd : Nat → Nat) (b y : Nat) (c : Nat → Nat) (hf : f < 2) (hg : qf_dj g) (hI : qf_inv b G c) (hp : y < 256) (hc : 0 < c y) : Met l yX0_takeOut (ws_ yX0_takeOut cX0_takeOut 8 none) ({ frames := 4, cells := 0, slots := 0, locals := 106 }) (qf_Pc g dA dC dI (va_up F f G, rc, rd) [.int (nI f), .int (nI y)]) (va_Qv (fun u => ∃ (G1 : qf_FS) (rc1 : Nat) (rd1 : Nat → Nat), u = (va_up F f G1, rc1, rd1) ∧ qf_inv b G1 (fun p => c p - if y = p then 1 else 0)) (qf_Bt g dA dC dI) (qf_A g)) 0 0 (qf_A g) := by
  refine qf_met (by decide) rfl (Nat.le_of_ble_eq_true rfl) ?_
  intro p e s m below meth c' ls S hr hlocks hP hK hl
  have hR : qf_RM ({ frames := 4, cells := 0, slots := 0, locals := 106 }) 4 106 := ⟨Nat.le_refl _, Nat.le_refl _⟩
  have hl : lv_has ls 8 [(0, .ref (g 0)), (1, .int (nI f)), (2, .int (nI y))] := hl
  have hS : va_S (qf_A g) s.heap s.heap [] := va_S.rf
  obtain ⟨D, z, Qq, e1x, hQ, hzQ, o1, o2, o3, o4, o5, o6, o7, hRD, own, I⟩ := qf_inv_to hI hp hc
  obtain ⟨hB, hGb, hH, -⟩ := id hI
  have h64 := (qf_bk_64 hB).2
  refine lv_aload_n S.1 S.2.1 dX0_takeOut_0 rfl (lv_at hl 0 rfl) ?_
  refine lv_iload_n S.1 S.2.1 dX0_takeOut_1 rfl (lv_at hl 1 rfl) ?_
  refine lv_iload_n S.1 S.2.1 dX0_takeOut_2 rfl (lv_at hl 2 rfl) ?_
  refine yc_slotOf S hK hP hf hGb hB hp (hR.le (by decide) (by decide)) hl.1 (Nat.le_of_ble_eq_true rfl) dX0_takeOut_3 ?_
  refine lv_istore_n (lv' := [(3, .int (nI (y / 2 ^ (8 - b)))), (0, .ref (g 0)), (1, .int (nI f)), (2, .int (nI y))]) S.1 S.2.1 dX0_takeOut_6 rfl hl (by decide) rfl (fun ls hl => ?_)
  refine lv_iload_n S.1 S.2.1 dX0_takeOut_7 rfl (lv_at hl 0 rfl) ?_
  refine qf_top (congrArg nI hQ.symm) ?_
  refine lv_istore (lv' := [(4, .int (nI (Qq % 2 ^ b))), (3, .int (nI (y / 2 ^ (8 - b)))), (0, .ref (g 0)), (1, .int (nI f)), (2, .int (nI y))]) S.1 S.2.1 dX0_takeOut_8 hl (by decide) rfl (fun ls hl => ?_)
  refine to_loop1 S hK hf hB hR hP hGb (z := z) o2 (fun ls hl => ?_) (Qq - z) Qq (by omega) o1 ls (lv_sub hl [2, 3, 4, 0] rfl)
  refine lv_aload_n S.1 S.2.1 dX0_takeOut_32 rfl (lv_at hl 0 rfl) ?_
  refine lv_iload_n S.1 S.2.1 dX0_takeOut_33 rfl (lv_at hl 1 rfl) ?_
  refine lv_iload S.1 S.2.1 dX0_takeOut_34 (lv_at hl 3 rfl) ?_
  refine yc_after (x := z) S hK hP hf hGb hB (hR.le (by decide) (by decide)) hl.1 (Nat.le_of_ble_eq_true rfl) dX0_takeOut_36 ?_
  refine lv_istore (lv' := [(4, .int (nI ((z + 1) % 2 ^ b))), (0, .ref (g 0)), (1, .int (nI f)), (2, .int (nI y))]) S.1 S.2.1 dX0_takeOut_39 hl (by decide) rfl (fun ls hl => ?_)
  refine lv_aload_n S.1 S.2.1 dX0_takeOut_41 rfl (lv_at hl 1 rfl) ?_
  refine lv_iload_n S.1 S.2.1 dX0_takeOut_42 rfl (lv_at hl 2 rfl) ?_
  refine lv_iload S.1 S.2.1 dX0_takeOut_43 (lv_at hl 0 rfl) ?_
  refine lv_iconst (v := nI 0) S.1 S.2.1 dX0_takeOut_45 (by decide) ?_
  refine yc_readStretch (e1x := e1x) (cnt := 0) (ow := fun x => x - D x) S hK hP hS hg hf hGb hB o3 hRD o6 o7 (fun x q1 q2 => I.2.2.1 x (o6 x q1 q2)) (by omega) (hR.le (by decide) (by decide)) hl.1 (Nat.le_of_ble_eq_true rfl) dX0_takeOut_46 (fun rd1 H locs d1 d2 hP hS => ?_)
  refine lv_istore (lv' := [(5, .int (nI (e1x % 2 ^ b))), (4, .int (nI ((z + 1) % 2 ^ b))), (0, .ref (g 0)), (1, .int (nI f)), (2, .int (nI y))]) S.1 S.2.1 dX0_takeOut_49 hl (by decide) rfl (fun ls hl => ?_)
  refine lv_iload S.1 S.2.1 dX0_takeOut_51 (lv_at hl 1 rfl) ?_
  refine lv_istore (lv' := [(6, .int (nI ((z + 1) % 2 ^ b))), (5, .int (nI (e1x % 2 ^ b))), (4, .int (nI ((z + 1) % 2 ^ b))), (0, .ref (g 0)), (1, .int (nI f)), (2, .int (nI y))]) S.1 S.2.1 dX0_takeOut_53 hl (by decide) rfl (fun ls hl => ?_)
  refine to_loop2 S hK hf hB hR hg (H0 := s.heap) (z := z) (e1x := e1x) (G0 := G) o4 (fun G1 H locs ls gB gH gL g1 g2 hP hS hl => ?_) (e1x - (z + 1)) (z + 1) G H locs (by omega) (by omega) o3 hGb rfl rfl (fun t3 q1 q2 => by omega) (fun _ _ => ⟨rfl, rfl, rfl⟩) hP hS ls (lv_sub hl [3, 4, 5, 1, 0] rfl)
  obtain ⟨hm, c1, hI1, hceq, hc1⟩ := qf_inv_fre hB hp hH hQ hzQ o2 o3 o4 o5 o6 o7 I gB gL g1 g2
  rw [Nat.zero_add] at hP
  refine lv_aload_n S.1 S.2.1 dX0_takeOut_81 rfl (lv_at hl 0 rfl) ?_
  refine xg_H S hK hP dX0_takeOut_82 ?_
  refine lv_iload_n S.1 S.2.1 dX0_takeOut_85 rfl (lv_at hl 1 rfl) ?_
  refine lv_dup2_11 S.1 S.2.1 dX0_takeOut_86 rfl rfl ?_
  refine yl_H S hK hP hf dX0_takeOut_87 ?_
  refine lv_aload_n S.1 S.2.1 dX0_takeOut_88 rfl (lv_at hl 0 rfl) ?_
  refine xg_C S hK hP dX0_takeOut_89 ?_
  refine qf_top (y := nI (e1x - (z + 1))) rfl ?_
  refine lv_isub S.1 S.2.1 dX0_takeOut_92 ?_
  refine qf_top (qn_sub (by rw [gH]; exact hm)) ?_
  refine lv_i2b (v := nI (qf_H G1 - (e1x - (z + 1)))) S.1 S.2.1 dX0_takeOut_93 (qf_byte (by rw [gH]; omega)) ?_
  refine ys_H S hK hP hg hS rfl (by rw [gH]; omega) hf dX0_takeOut_94 (fun H locs hP hS => ?_)
  rw [← gH] at hI1
  refine lv_iconst (v := qf_b false) S.1 S.2.1 dX0_takeOut_95 (by decide) ?_
  refine lv_istore (lv' := [(6, .int (qf_b false)), (0, .ref (g 0)), (1, .int (nI f)), (2, .int (nI y))]) S.1 S.2.1 dX0_takeOut_96 hl (by decide) rfl (fun ls hl => ?_)
  refine lv_iconst (v := nI 0) S.1 S.2.1 dX0_takeOut_98 (by decide) ?_
  refine lv_istore (lv' := [(7, .int (nI 0)), (6, .int (qf_b false)), (0, .ref (g 0)), (1, .int (nI f)), (2, .int (nI y))]) S.1 S.2.1 dX0_takeOut_99 hl (by decide) rfl (fun ls hl => ?_)
  have hrd : ∀ i, i < e1x - (z + 1) → rd1 i < 256 := fun i hi => by
    have := d1 i hi
    rw [Nat.zero_add] at this
    rw [this]
    exact qf_pr_lt hB (Nat.mod_lt _ (qf_bk_pos hB)) (I.2.2.1 _ (o6 (z + 1 + i) (by omega) (by omega)))
  have hct : ∀ p, qf_ct (fun i => rd1 i == p) 0 (e1x - (z + 1)) = qf_ct (fun x => qf_PR (2 ^ b) (2 ^ (8 - b)) D (qf_pe (2 ^ b) (qf_L G)) x == p) (z + 1) (e1x - (z + 1)) := fun p => qf_ct_sh (fun i hi => by
    show (rd1 (0 + i) == p) = (qf_PR (2 ^ b) (2 ^ (8 - b)) D (qf_pe (2 ^ b) (qf_L G)) (z + 1 + i) == p)
    rw [d1 i hi, own (z + 1 + i) (by omega) (by omega)])
  refine to_loop3 S hK hf hB hR hg (H0 := s.heap) (c1 := c1) hp (by omega) hrd (by rw [qf_inv_sum hI1]; show qf_H G1 - (e1x - (z + 1)) + (e1x - (z + 1)) < 2 ^ b; rw [gH]; omega) (fun gone G2 ci H locs ls hI2 heq hg0 hP hS => ?_) (e1x - (z + 1)) 0 false (qf_setH G1 (qf_H G1 - (e1x - (z + 1)))) c1 H locs (by omega) hI1 (fun p => by simp [qf_ct]) (fun _ => rfl) hP hS ls (lv_sub hl [2, 3, 4, 1, 0] rfl)
  have hgone : gone = true := by
    cases gone with
    | true => rfl
    | false =>
      have q1 := hg0 rfl
      have q2 := hceq y
      rw [hct y] at q1
      omega
  subst hgone
  have hfin : ∀ p, ci p = c p - if y = p then 1 else 0 := fun p => by
    have q1 := heq p
    have q2 := hceq p
    rw [hct p] at q1
    simp only [true_and] at q1
    omega
  exact W.vret S.1 S.2.1 hr (fun t ht hW => ⟨⟨_, rfl, ⟨G2, _, _, rfl, qf_inv_of hI2 hfin⟩, by unfold qf_Bt; rw [ht]; exact hP⟩, hS.F ht⟩) hS.2.2 dX0_takeOut_150
section QTO2
variable {p : Program} {l : Launch} {e : Env} {R : Room} {s : State} {m : MethodId} {args : Array Value} {below : List Frame} {meth : Method} {c : Code} {H H0 : Heap} {locs : List Loc} {cells slots : Nat} {Q : State → Prop} {cc : ByteArray} {pc nL : Nat} {ls : Array Slot} {rest : List Value} {g : Nat → Nat} {dC : Nat → ClassId} {dI : Nat → Nat → Nat} {dA : Nat → ClassId} {F : Nat → qf_FS} {f b : Nat} {G : qf_FS} {rc : Nat} {rd : Nat → Nat} {u : qf_QS}
theorem yc_takeOut {y : Nat} {c1 : Nat → Nat} (S : CallFix p m c cc nL s args lw_all RX0) (hK : va_K (dC, dI) qf_cl (qf_tys dA) s) (hP : va_P (dC, dI) qf_cl (qf_w g dA (va_up F f G, rc, rd)) H) (hS : va_S (qf_A g) H0 H locs) (hg : qf_dj g) (hf : f < 2) (hI : qf_inv b G c1) (hp : y < 256) (hc : 0 < c1 y) (hR : qf_RM R 5 (8 + (8 + 11) + 106)) (hsz : ls.size = nL) (hroom : (rest.map fun v => v.category).sum ≤ 8) (hdg : decode cc pc = .ok (.invokevirtual 52, 3)) (kk : ∀ (G1 : qf_FS) (rc1 : Nat) (rd1 : Nat → Nat) (H1 : Heap) (locs1 : List Loc), qf_inv b G1 (fun p => c1 p - if y = p then 1 else 0) → va_P (dC, dI) qf_cl (qf_w g dA (va_up F f G1, rc1, rd1)) H1 → va_S (qf_A g) H0 H1 locs1 → W p l e R s m args below meth c H1 locs1 0 0 Q (F0 m (pc + 3) ls rest)) : W p l e R s m args below meth c H locs 0 0 Q (F0 m pc ls (.int (nI y) :: .int (nI f) :: .ref (g 0) :: rest)) :=
  qf_callv S hK hP hS (fun _ h => h) (met_takeOut l dC dI dA g F f G rc rd b y c1 hf hg hI hp hc) (lw_V q124 q126 qs13 q21 q127) rfl rfl (by decide +kernel) hR (n := 2) rfl hsz hroom hdg ⟨Nat.zero_le _, Nat.zero_le _⟩ (As := [.int (nI f), .int (nI y)]) rfl (fun u1 H1 locs1 h1 h2 h3 _ _ => by
    obtain ⟨G1, rc1, rd1, e1, a1⟩ := h1
    exact kk G1 rc1 rd1 H1 locs1 a1 (by rw [← e1]; exact h2) h3)
end QTO2
end
section
/-! WHAT THE CALLS ANSWER, in numbers: a.1 f bits of filter f, a.2 f p how often it holds p -/
abbrev qa_S : Type := (Nat → Nat) × (Nat → Nat → Nat)
def qa_set (a : qa_S) (f b : Nat) (c : Nat → Nat) : qa_S := (va_up a.1 f b, va_up a.2 f c)
def qa_i (x : Int32) : Nat := if x = 1 then 1 else 0
theorem qa_in {f : Nat} (hf : f < 2) : (nI f = 0 ∨ nI f = 1) ∧ qa_i (nI f) = f := by
  have : f = 0 ∨ f = 1 := by omega
  rcases this with e | e <;> subst e <;> decide
theorem qa_ex {x : Int32} (h : x = 0 ∨ x = 1) : ∃ f, f < 2 ∧ x = nI f := by
  rcases h with e | e
  · exact ⟨0, by decide, e⟩
  · exact ⟨1, by decide, e⟩
/-- a call that first asks whether there is such a filter -/
def qa_on {α : Type} (x : Int32) (T : Nat → α) (e : α) : α := if x = 0 ∨ x = 1 then T (qa_i x) else e
theorem qa_on_f {α : Type} {f : Nat} (hf : f < 2) (T : Nat → α) (e : α) : qa_on (nI f) T e = T f := by
  unfold qa_on
  rw [if_pos (qa_in hf).1, (qa_in hf).2]
theorem qa_on_n {α : Type} {x : Int32} (h : ¬ (x = 0 ∨ x = 1)) (T : Nat → α) (e : α) : qa_on x T e = e := if_neg h
abbrev qa_H (a : qa_S) (f : Nat) : Nat := qf_sm (a.2 f) 256
def qa_addF (a : qa_S) (y f : Nat) : Int32 × qa_S := if 2 ^ a.1 f - 1 ≤ qa_H a f then (-2, a) else (nI (a.2 f y + 1), qa_set a f (a.1 f) (fun p => a.2 f p + if y = p then 1 else 0))
def qa_add (a : qa_S) (x z : Int32) : Int32 × qa_S := qa_on x (qa_addF a (qf_hash z)) (-1, a)
def qa_removeF (a : qa_S) (y f : Nat) : Int32 × qa_S := if a.2 f y = 0 then (-3, a) else (nI (a.2 f y - 1), qa_set a f (a.1 f) (fun p => a.2 f p - if y = p then 1 else 0))
def qa_remove (a : qa_S) (x z : Int32) : Int32 × qa_S := qa_on x (qa_removeF a (qf_hash z)) (-1, a)
def qa_maybe (a : qa_S) (x z : Int32) : Int32 := qa_on x (fun f => qf_b (decide (0 < a.2 f (qf_hash z)))) (qf_b false)
def qa_times (a : qa_S) (x z : Int32) : Int32 := qa_on x (fun f => if ¬ z < 0 ∧ z ≤ 255 then nI (a.2 f z.toNatClampNeg) else -1) (-1)
def qa_count (a : qa_S) (x : Int32) : Int32 := qa_on x (fun f => nI (qa_H a f)) (-1)
def qa_size (a : qa_S) (x : Int32) : Int32 := qa_on x (fun f => nI (2 ^ a.1 f)) (-1)
/-- the k-th fingerprint in order -/
def qa_kth (c : Nat → Nat) (k : Nat) : Nat := qf_ct (fun p => decide (qf_sm c (p + 1) ≤ k)) 0 256
def qa_print (a : qa_S) (x k : Int32) : Int32 := qa_on x (fun f => if k < 0 ∨ nI (qa_H a f) ≤ k then -3 else nI (qa_kth (a.2 f) k.toNatClampNeg)) (-1)
def qa_growF (a : qa_S) (f : Nat) : Int32 × qa_S := if a.1 f = 6 then (-2, a) else (nI (2 ^ (a.1 f + 1)), qa_set a f (a.1 f + 1) (a.2 f))
def qa_grow (a : qa_S) (x : Int32) : Int32 × qa_S := qa_on x (qa_growF a) (-1, a)
def qa_shrinkF (a : qa_S) (f : Nat) : Int32 × qa_S := if a.1 f = 3 ∨ 2 ^ a.1 f / 2 - 1 < qa_H a f then (-3, a) else (nI (2 ^ (a.1 f - 1)), qa_set a f (a.1 f - 1) (a.2 f))
def qa_shrink (a : qa_S) (x : Int32) : Int32 × qa_S := qa_on x (qa_shrinkF a) (-1, a)
/-- the bits that T fingerprints need, from b on -/
def qa_gb (T b : Nat) : Nat := if T ≤ 2 ^ b - 1 then b else if T ≤ 2 ^ (b + 1) - 1 then b + 1 else if T ≤ 2 ^ (b + 2) - 1 then b + 2 else b + 3
def qa_pourF (a : qa_S) (f : Nat) : Int32 × qa_S := if 63 < qa_H a 0 + qa_H a 1 then (-2, a) else (nI (qa_H a 0 + qa_H a 1), qa_set a f (qa_gb (qa_H a 0 + qa_H a 1) (a.1 f)) (fun p => a.2 f p + a.2 (1 - f) p))
def qa_pour (a : qa_S) (x : Int32) : Int32 × qa_S := qa_on x (qa_pourF a) (-1, a)
def qa_clear (a : qa_S) (x : Int32) : Int32 × qa_S := qa_on x (fun f => (nI (qa_H a f), qa_set a f (a.1 f) (fun _ => 0))) (-1, a)
/-- the class's state is as the numbers say -/
def qf_good (u : qf_QS) (a : qa_S) : Prop := ∀ f, f < 2 → qf_inv (a.1 f) (u.1 f) (a.2 f)
theorem qf_good_set {F : Nat → qf_FS} {rc rc1 : Nat} {rd rd1 : Nat → Nat} {a : qa_S} {f b : Nat} {G : qf_FS} {c : Nat → Nat} (h : qf_good (F, rc, rd) a) (hI : qf_inv b G c) : qf_good (va_up F f G, rc1, rd1) (qa_set a f b c) := by
  intro f1 hf1
  show qf_inv (va_up a.1 f b f1) (va_up F f G f1) (va_up a.2 f c f1)
  by_cases e : f1 = f
  · rw [e, qf_up_s, qf_up_s, qf_up_s]; exact hI
  · rw [qf_up_n _ _ e, qf_up_n _ _ e, qf_up_n _ _ e]; exact h f1 hf1
theorem qf_good_same {F : Nat → qf_FS} {rc rc1 : Nat} {rd rd1 : Nat → Nat} {a : qa_S} {f : Nat} (h : qf_good (F, rc, rd) a) : qf_good (va_up F f (F f), rc1, rd1) a := by
  rw [qf_upself]; exact h
theorem qf_good_H {u : qf_QS} {a : qa_S} (h : qf_good u a) {f : Nat} (hf : f < 2) : qa_H a f = qf_H (u.1 f) := qf_inv_sum (h f hf)
/-! the k-th -/
theorem qf_sm_mono (c : Nat → Nat) {m n : Nat} (h : m ≤ n) : qf_sm c m ≤ qf_sm c n := by
  induction n with
  | zero => have : m = 0 := by omega
            rw [this]; exact Nat.le_refl _
  | succ n ih =>
    rcases Nat.eq_or_lt_of_le h with q | q
    · rw [q]; exact Nat.le_refl _
    · have := ih (by omega)
      show qf_sm c m ≤ qf_sm c n + c n
      omega
theorem qa_kth_eq {c : Nat → Nat} {k p : Nat} (hp : p < 256) (h1 : qf_sm c p ≤ k) (h2 : k < qf_sm c (p + 1)) : qa_kth c k = p := by
  unfold qa_kth
  rw [qf_ct_cut _ 0 p (256 - p) 256 (by omega), qf_ct_all (fun i hi => by
    have := qf_sm_mono c (show 0 + i + 1 ≤ p by omega)
    exact decide_eq_true (by omega)), qf_ct_0 (fun i hi => by
    have := qf_sm_mono c (show p + 1 ≤ 0 + p + i + 1 by omega)
    exact decide_eq_false (by omega))]
  rfl
theorem qa_kth_ex {c : Nat → Nat} {k : Nat} (h : k < qf_sm c 256) : ∃ p, p < 256 ∧ qf_sm c p ≤ k ∧ k < qf_sm c (p + 1) := by
  obtain ⟨p, p1, p2, p3, p4⟩ := qf_first' (P := fun p => decide (qf_sm c (p + 1) ≤ k)) (a := 0) (b := 255) (Nat.zero_le _) (decide_eq_false (by show ¬ qf_sm c 256 ≤ k; omega))
  refine ⟨p, by omega, ?_, by have := of_decide_eq_false p4; omega⟩
  cases p with
  | zero => exact Nat.zero_le _
  | succ p => exact of_decide_eq_true (p3 p (Nat.zero_le _) (by omega))
/-- how many that were read are smaller -/
theorem qf_sm_below (rd : Nat → Nat) (n v : Nat) : qf_ct (fun i => decide (rd i < v)) 0 n = qf_sm (fun q => qf_ct (fun i => rd i == q) 0 n) v := by
  have a := qf_sm_ct (fun _ => true) rd 0 n v
  have e : (fun p => qf_ct (fun x => true && (rd x == p)) 0 n) = fun p => qf_ct (fun i => rd i == p) 0 n := by
    funext p
    exact qf_ct_sh (fun i _ => Bool.true_and _)
  rw [e] at a
  rw [a]
  exact qf_ct_sh (fun i _ => (Bool.true_and _).symm)
/-! the bits that pour comes to -/
theorem qa_gb_spec {T b : Nat} (hb : qf_bk b) (hT : T ≤ 63) : b ≤ qa_gb T b ∧ qa_gb T b ≤ 6 ∧ T ≤ 2 ^ qa_gb T b - 1 ∧ ∀ t, b ≤ t → t < qa_gb T b → 2 ^ t - 1 < T := by
  have h63 : (2 : Nat) ^ 6 - 1 = 63 := by decide
  unfold qa_gb
  rcases qf_bk_4 hb with e | e | e | e <;> subst e
  · split
    · exact ⟨by omega, by omega, by omega, fun t t1 t2 => by omega⟩
    · split
      · exact ⟨by omega, by omega, by omega, fun t t1 t2 => by have : t = 3 := by omega
                                                               subst this; omega⟩
      · split
        · refine ⟨by omega, by omega, by omega, fun t t1 t2 => ?_⟩
          have : t = 3 ∨ t = 4 := by omega
          rcases this with e | e <;> subst e <;> omega
        · refine ⟨by omega, by omega, by omega, fun t t1 t2 => ?_⟩
          have : t = 3 ∨ t = 4 ∨ t = 5 := by omega
          rcases this with e | e | e <;> subst e <;> omega
  · split
    · exact ⟨by omega, by omega, by omega, fun t t1 t2 => by omega⟩
    · split
      · exact ⟨by omega, by omega, by omega, fun t t1 t2 => by have : t = 4 := by omega
                                                               subst this; omega⟩
      · refine ⟨by omega, by omega, by omega, fun t t1 t2 => ?_⟩
        have : t = 4 ∨ t = 5 := by omega
        rcases this with e | e <;> subst e <;> omega
  · split
    · exact ⟨by omega, by omega, by omega, fun t t1 t2 => by omega⟩
    · exact ⟨by omega, by omega, by omega, fun t t1 t2 => by have : t = 5 := by omega
                                                             subst this; omega⟩
  · split
    · exact ⟨by omega, by omega, by omega, fun t t1 t2 => by omega⟩
    · omega
end
section
/-! THE CALLS of QuotientFilter against the numbers -/
theorem qf_sm_le (c : Nat → Nat) {p n : Nat} (h : p < n) : c p ≤ qf_sm c n := by
  have := qf_sm_mono c (show p + 1 ≤ n by omega)
  have e : qf_sm c (p + 1) = qf_sm c p + c p := rfl
  omega
theorem qf_inv_le {b : Nat} {G : qf_FS} {c : Nat → Nat} (h : qf_inv b G c) {y : Nat} (hy : y < 256) : c y < 64 := by
  have a := qf_sm_le c hy
  rw [qf_inv_sum h] at a
  have := qf_inv_lt h
  omega
section QPB0
variable {p : Program} {l : Launch} {e : Env} {R : Room} {s : State} {m : MethodId} {args : Array Value} {below : List Frame} {meth : Method} {c : Code} {H : Heap} {locs : List Loc} {cells slots : Nat} {Q : State → Prop} {cc : ByteArray} {pc : Nat} {ls : Array Slot} {rest : List Value}
theorem qf_ifneN (hx : p.tables.exec = Jvm.exec) (hb : c.code = cc) {a : Nat} (ha : a < 2 ^ 31) {off : Int} {tgt : Nat} (hdg : decode cc pc = .ok (.ifCond .ne off, 3)) (ht : (pc : Int) + off = (tgt : Int)) (k1 : a ≠ 0 → W p l e R s m args below meth c H locs cells slots Q (F0 m tgt ls rest)) (k2 : a = 0 → W p l e R s m args below meth c H locs cells slots Q (F0 m (pc + 3) ls rest)) : W p l e R s m args below meth c H locs cells slots Q (F0 m pc ls (.int (nI a) :: rest)) :=
  lv_if_ne hx hb hdg ht (fun h => k1 (fun q => h (by rw [q]; rfl))) (fun h => k2 ((nI_eq ha (by decide)).mp (h.trans nI_0.symm)))
theorem qf_ifleN (hx : p.tables.exec = Jvm.exec) (hb : c.code = cc) {a : Nat} (ha : a < 2 ^ 31) {off : Int} {tgt : Nat} (hdg : decode cc pc = .ok (.ifCond .le off, 3)) (ht : (pc : Int) + off = (tgt : Int)) (k1 : a = 0 → W p l e R s m args below meth c H locs cells slots Q (F0 m tgt ls rest)) (k2 : 0 < a → W p l e R s m args below meth c H locs cells slots Q (F0 m (pc + 3) ls rest)) : W p l e R s m args below meth c H locs cells slots Q (F0 m pc ls (.int (nI a) :: rest)) :=
  lv_if_le hx hb hdg ht (fun h => k1 (Nat.le_zero.mp ((nI_leI ha (by decide)).mp (show nI a ≤ nI 0 from h)))) (fun h => k2 (Nat.pos_of_ne_zero (fun q => h (by rw [q]; exact (nI_leI (a := 0) (b := 0) (by decide) (by decide)).mpr (Nat.le_refl _)))))
end QPB0
set_option maxHeartbeats 4000000 in
set_option maxRecDepth 100000 in
theorem met_add (l : Launch) (dC : Nat → ClassId) (dI : Nat → Nat → Nat) (dA : Nat → ClassId) (g : Nat → Nat) (u : qf_QS) (a : qa_S) (x z : Int32) (hg : qf_dj g) (hG : qf_good u a) : Met l yX0_add (ws_ yX0_add cX0_add 4 (some .int)) ({ frames := 4, cells := 0, slots := 0, locals := 106 }) (qf_Pc g dA dC dI u [.int x, .int z]) (va_Qi (fun r u1 => r = (qa_add a x z).1 ∧ qf_good u1 (qa_add a x z).2) (qf_Bt g dA dC dI) (qf_A g)) 0 0 (qf_A g) := by
  refine qf_met (by decide) rfl (Nat.le_of_ble_eq_true rfl) ?_
  intro p e s m below meth c ls S hr hlocks hP hK hl
  have hR : qf_RM ({ frames := 4, cells := 0, slots := 0, locals := 106 }) 4 106 := ⟨Nat.le_refl _, Nat.le_refl _⟩
  have hl : lv_has ls 4 [(0, .ref (g 0)), (1, .int x), (2, .int z)] := hl
  have hS : va_S (qf_A g) s.heap s.heap [] := va_S.rf
  refine lv_aload_n S.1 S.2.1 dX0_add_0 rfl (lv_at hl 0 rfl) ?_
  refine lv_iload_n S.1 S.2.1 dX0_add_1 rfl (lv_at hl 1 rfl) ?_
  refine yc_isFilter S hK hP (hR.le (by decide) (by decide)) hl.1 (Nat.le_of_ble_eq_true rfl) dX0_add_2 ?_
  refine qf_ifne (tgt := 10) S.1 S.2.1 dX0_add_5 (by decide) (fun h1 => ?_) (fun h1 => ?_)
  · have h1 := of_decide_eq_true h1
    obtain ⟨f, hf, rfl⟩ := qa_ex h1
    obtain ⟨F, rc, rd⟩ := u
    obtain ⟨b, hb⟩ : ∃ b, a.1 f = b := ⟨_, rfl⟩
    obtain ⟨cf, hcf⟩ : ∃ cf, a.2 f = cf := ⟨_, rfl⟩
    obtain ⟨G, hGe⟩ : ∃ G, F f = G := ⟨_, rfl⟩
    have hI : qf_inv b G cf := by rw [← hb, ← hcf, ← hGe]; exact hG f hf
    have hP : va_P (dC, dI) qf_cl (qf_w g dA (va_up F f G, rc, rd)) s.heap := by rw [← hGe, qf_upself]; exact hP
    have hGs : qf_good (va_up F f G, rc, rd) a := by rw [← hGe]; exact qf_good_same hG
    obtain ⟨hB, hGb, hH, -⟩ := id hI
    have h64 := (qf_bk_64 hB).2
    have eH : qa_H a f = qf_H G := by show qf_sm (a.2 f) 256 = qf_H G; rw [hcf]; exact qf_inv_sum hI
    have es : qa_add a (nI f) z = qa_addF a (qf_hash z) f := qa_on_f hf _ _
    refine lv_aload_n S.1 S.2.1 dX0_add_10 rfl (lv_at hl 0 rfl) ?_
    refine xg_H S hK hP dX0_add_11 ?_
    refine lv_iload_n S.1 S.2.1 dX0_add_14 rfl (lv_at hl 1 rfl) ?_
    refine yl_H S hK hP hf dX0_add_15 ?_
    refine lv_aload_n S.1 S.2.1 dX0_add_16 rfl (lv_at hl 0 rfl) ?_
    refine lv_iload_n S.1 S.2.1 dX0_add_17 rfl (lv_at hl 1 rfl) ?_
    refine yc_slots S hK hP hf hGb hB (hR.le (by decide) (by decide)) hl.1 (Nat.le_of_ble_eq_true rfl) dX0_add_18 ?_
    refine lv_iconst (v := nI 1) S.1 S.2.1 dX0_add_21 (by decide) ?_
    refine lv_isub S.1 S.2.1 dX0_add_22 ?_
    refine qf_top (qn_sub (Nat.le_trans (by decide) (qf_bk_64 hB).1)) ?_
    refine qf_icmplt (tgt := 29) S.1 S.2.1 (by omega) (by omega) dX0_add_23 (by decide) (fun h2 => ?_) (fun h2 => ?_)
    · refine lv_aload_n S.1 S.2.1 dX0_add_29 rfl (lv_at hl 0 rfl) ?_
      refine lv_iload_n S.1 S.2.1 dX0_add_30 rfl (lv_at hl 2 rfl) ?_
      refine yc_printOf S hK hP (hR.le (by decide) (by decide)) hl.1 (Nat.le_of_ble_eq_true rfl) dX0_add_31 ?_
      refine lv_istore_n (lv' := [(3, .int (nI (qf_hash z))), (0, .ref (g 0)), (1, .int (nI f)), (2, .int z)]) S.1 S.2.1 dX0_add_34 rfl hl (by decide) rfl (fun ls hl => ?_)
      refine lv_aload_n S.1 S.2.1 dX0_add_35 rfl (lv_at hl 1 rfl) ?_
      refine lv_iload_n S.1 S.2.1 dX0_add_36 rfl (lv_at hl 2 rfl) ?_
      refine lv_iload_n S.1 S.2.1 dX0_add_37 rfl (lv_at hl 0 rfl) ?_
      refine yc_insert S hK hP hS hg hf hI (qf_hash_lt z) (by omega) (hR.le (by decide) (by decide)) hl.1 (Nat.le_of_ble_eq_true rfl) dX0_add_38 (fun G1 H locs hI1 hP hS => ?_)
      refine lv_aload_n S.1 S.2.1 dX0_add_41 rfl (lv_at hl 1 rfl) ?_
      refine lv_iload_n S.1 S.2.1 dX0_add_42 rfl (lv_at hl 2 rfl) ?_
      refine lv_iload_n S.1 S.2.1 dX0_add_43 rfl (lv_at hl 0 rfl) ?_
      refine yc_timesOf S hK hP hf hI1 (qf_hash_lt z) (hR.le (by decide) (by decide)) hl.1 (Nat.le_of_ble_eq_true rfl) dX0_add_44 ?_
      exact W.iret S.1 S.2.1 hr (fun t ht hW => ⟨⟨_, (va_up F f G1, rc, rd), rfl, by rw [es, qa_addF, if_neg (by rw [hb, eH]; omega)]; exact ⟨by show nI (cf (qf_hash z) + if qf_hash z = qf_hash z then 1 else 0) = nI (a.2 f (qf_hash z) + 1); rw [hcf, if_pos rfl], by show qf_good _ (qa_set a f (a.1 f) (fun p => a.2 f p + if qf_hash z = p then 1 else 0)); rw [hb, hcf]; exact qf_good_set hG hI1⟩, by unfold qf_Bt; rw [ht]; exact hP⟩, hS.F ht⟩) hS.2.2 dX0_add_47
    · refine lv_bipush (v := (-2)) S.1 S.2.1 dX0_add_26 (by decide) ?_
      exact W.iret S.1 S.2.1 hr (fun t ht hW => ⟨⟨_, (va_up F f G, rc, rd), rfl, by rw [es, qa_addF, if_pos (by rw [hb, eH]; omega)]; exact ⟨rfl, hGs⟩, by unfold qf_Bt; rw [ht]; exact hP⟩, hS.F ht⟩) hS.2.2 dX0_add_28
  · have h1 := of_decide_eq_false h1
    refine lv_iconst (v := (-1)) S.1 S.2.1 dX0_add_8 (by decide) ?_
    exact W.iret S.1 S.2.1 hr (fun t ht hW => ⟨⟨_, u, rfl, by rw [show qa_add a x z = (-1, a) from qa_on_n h1 _ _]; exact ⟨rfl, hG⟩, by unfold qf_Bt; rw [ht]; exact hP⟩, hS.F ht⟩) hS.2.2 dX0_add_9
set_option maxHeartbeats 4000000 in
set_option maxRecDepth 100000 in
theorem met_remove (l : Launch) (dC : Nat → ClassId) (dI : Nat → Nat → Nat) (dA : Nat → ClassId) (g : Nat → Nat) (u : qf_QS) (a : qa_S) (x z : Int32) (hg : qf_dj g) (hG : qf_good u a) : Met l yX0_remove (ws_ yX0_remove cX0_remove 5 (some .int)) ({ frames := 5, cells := 0, slots := 0, locals := 133 }) (qf_Pc g dA dC dI u [.int x, .int z]) (va_Qi (fun r u1 => r = (qa_remove a x z).1 ∧ qf_good u1 (qa_remove a x z).2) (qf_Bt g dA dC dI) (qf_A g)) 0 0 (qf_A g) := by
  refine qf_met (by decide) rfl (Nat.le_of_ble_eq_true rfl) ?_
  intro p e s m below meth c ls S hr hlocks hP hK hl
  have hR : qf_RM ({ frames := 5, cells := 0, slots := 0, locals := 133 }) 5 133 := ⟨Nat.le_refl _, Nat.le_refl _⟩
  have hl : lv_has ls 5 [(0, .ref (g 0)), (1, .int x), (2, .int z)] := hl
  have hS : va_S (qf_A g) s.heap s.heap [] := va_S.rf
  refine lv_aload_n S.1 S.2.1 dX0_remove_0 rfl (lv_at hl 0 rfl) ?_
  refine lv_iload_n S.1 S.2.1 dX0_remove_1 rfl (lv_at hl 1 rfl) ?_
  refine yc_isFilter S hK hP (hR.le (by decide) (by decide)) hl.1 (Nat.le_of_ble_eq_true rfl) dX0_remove_2 ?_
  refine qf_ifne (tgt := 10) S.1 S.2.1 dX0_remove_5 (by decide) (fun h1 => ?_) (fun h1 => ?_)
  · have h1 := of_decide_eq_true h1
    obtain ⟨f, hf, rfl⟩ := qa_ex h1
    obtain ⟨F, rc, rd⟩ := u
    obtain ⟨b, hb⟩ : ∃ b, a.1 f = b := ⟨_, rfl⟩
    obtain ⟨cf, hcf⟩ : ∃ cf, a.2 f = cf := ⟨_, rfl⟩
    obtain ⟨G, hGe⟩ : ∃ G, F f = G := ⟨_, rfl⟩
    have hI : qf_inv b G cf := by rw [← hb, ← hcf, ← hGe]; exact hG f hf
    have hP : va_P (dC, dI) qf_cl (qf_w g dA (va_up F f G, rc, rd)) s.heap := by rw [← hGe, qf_upself]; exact hP
    have hGs : qf_good (va_up F f G, rc, rd) a := by rw [← hGe]; exact qf_good_same hG
    obtain ⟨hB, hGb, hH, -⟩ := id hI
    have h64 := (qf_bk_64 hB).2
    have eH : qa_H a f = qf_H G := by show qf_sm (a.2 f) 256 = qf_H G; rw [hcf]; exact qf_inv_sum hI
    have es : qa_remove a (nI f) z = qa_removeF a (qf_hash z) f := qa_on_f hf _ _
    refine lv_aload_n S.1 S.2.1 dX0_remove_10 rfl (lv_at hl 0 rfl) ?_
    refine lv_iload_n S.1 S.2.1 dX0_remove_11 rfl (lv_at hl 2 rfl) ?_
    refine yc_printOf S hK hP (hR.le (by decide) (by decide)) hl.1 (Nat.le_of_ble_eq_true rfl) dX0_remove_12 ?_
    refine lv_istore_n (lv' := [(3, .int (nI (qf_hash z))), (0, .ref (g 0)), (1, .int (nI f)), (2, .int z)]) S.1 S.2.1 dX0_remove_15 rfl hl (by decide) rfl (fun ls hl => ?_)
    refine lv_aload_n S.1 S.2.1 dX0_remove_16 rfl (lv_at hl 1 rfl) ?_
    refine lv_iload_n S.1 S.2.1 dX0_remove_17 rfl (lv_at hl 2 rfl) ?_
    refine lv_iload_n S.1 S.2.1 dX0_remove_18 rfl (lv_at hl 0 rfl) ?_
    refine yc_timesOf S hK hP hf hI (qf_hash_lt z) (hR.le (by decide) (by decide)) hl.1 (Nat.le_of_ble_eq_true rfl) dX0_remove_19 ?_
    have hle := qf_inv_le hI (qf_hash_lt z)
    refine lv_istore (lv' := [(4, .int (nI (cf (qf_hash z)))), (3, .int (nI (qf_hash z))), (0, .ref (g 0)), (1, .int (nI f)), (2, .int z)]) S.1 S.2.1 dX0_remove_22 hl (by decide) rfl (fun ls hl => ?_)
    refine lv_iload S.1 S.2.1 dX0_remove_24 (lv_at hl 0 rfl) ?_
    refine qf_ifneN (tgt := 32) S.1 S.2.1 (by omega) dX0_remove_26 (by decide) (fun h2 => ?_) (fun h2 => ?_)
    · refine lv_aload_n S.1 S.2.1 dX0_remove_32 rfl (lv_at hl 2 rfl) ?_
      refine lv_iload_n S.1 S.2.1 dX0_remove_33 rfl (lv_at hl 3 rfl) ?_
      refine lv_iload_n S.1 S.2.1 dX0_remove_34 rfl (lv_at hl 1 rfl) ?_
      refine yc_takeOut S hK hP hS hg hf hI (qf_hash_lt z) (by omega) (hR.le (by decide) (by decide)) hl.1 (Nat.le_of_ble_eq_true rfl) dX0_remove_35 (fun G1 rc1 rd1 H locs hI1 hP hS => ?_)
      refine lv_iload S.1 S.2.1 dX0_remove_38 (lv_at hl 0 rfl) ?_
      refine lv_iconst (v := nI 1) S.1 S.2.1 dX0_remove_40 (by decide) ?_
      refine lv_isub S.1 S.2.1 dX0_remove_41 ?_
      refine qf_top (qn_sub (by omega)) ?_
      exact W.iret S.1 S.2.1 hr (fun t ht hW => ⟨⟨_, (va_up F f G1, rc1, rd1), rfl, by rw [es, qa_removeF, if_neg (by rw [hcf]; exact h2)]; exact ⟨by show _ = nI (a.2 f (qf_hash z) - 1); rw [hcf], by show qf_good _ (qa_set a f (a.1 f) (fun p => a.2 f p - if qf_hash z = p then 1 else 0)); rw [hb, hcf]; exact qf_good_set hG hI1⟩, by unfold qf_Bt; rw [ht]; exact hP⟩, hS.F ht⟩) hS.2.2 dX0_remove_42
    · refine lv_bipush (v := (-3)) S.1 S.2.1 dX0_remove_29 (by decide) ?_
      exact W.iret S.1 S.2.1 hr (fun t ht hW => ⟨⟨_, (va_up F f G, rc, rd), rfl, by rw [es, qa_removeF, if_pos (by rw [hcf]; exact h2)]; exact ⟨rfl, hGs⟩, by unfold qf_Bt; rw [ht]; exact hP⟩, hS.F ht⟩) hS.2.2 dX0_remove_31
  · have h1 := of_decide_eq_false h1
    refine lv_iconst (v := (-1)) S.1 S.2.1 dX0_remove_8 (by decide) ?_
    exact W.iret S.1 S.2.1 hr (fun t ht hW => ⟨⟨_, u, rfl, by rw [show qa_remove a x z = (-1, a) from qa_on_n h1 _ _]; exact ⟨rfl, hG⟩, by unfold qf_Bt; rw [ht]; exact hP⟩, hS.F ht⟩) hS.2.2 dX0_remove_9
set_option maxHeartbeats 4000000 in
set_option maxRecDepth 100000 in
theorem met_maybe (l : Launch) (dC : Nat → ClassId) (dI : Nat → Nat → Nat) (dA : Nat → ClassId) (g : Nat → Nat) (u : qf_QS) (a : qa_S) (x z : Int32) (hg : qf_dj g) (hG : qf_good u a) : Met l yX0_maybe (ws_ yX0_maybe cX0_maybe 4 (some .boolean)) ({ frames := 4, cells := 0, slots := 0, locals := 95 }) (qf_Pc g dA dC dI u [.int x, .int z]) (vp_Si (fun r => r = qa_maybe a x z)) 0 0 (fun _ => False) := by
  refine qf_met (by decide) rfl (Nat.le_of_ble_eq_true rfl) ?_
  intro p e s m below meth c ls S hr hlocks hP hK hl
  have hR : qf_RM ({ frames := 4, cells := 0, slots := 0, locals := 95 }) 4 95 := ⟨Nat.le_refl _, Nat.le_refl _⟩
  have hl : lv_has ls 4 [(0, .ref (g 0)), (1, .int x), (2, .int z)] := hl
  have hS : va_S (qf_A g) s.heap s.heap [] := va_S.rf
  refine lv_aload_n S.1 S.2.1 dX0_maybe_0 rfl (lv_at hl 0 rfl) ?_
  refine lv_iload_n S.1 S.2.1 dX0_maybe_1 rfl (lv_at hl 1 rfl) ?_
  refine yc_isFilter S hK hP (hR.le (by decide) (by decide)) hl.1 (Nat.le_of_ble_eq_true rfl) dX0_maybe_2 ?_
  refine qf_ifne (tgt := 10) S.1 S.2.1 dX0_maybe_5 (by decide) (fun h1 => ?_) (fun h1 => ?_)
  · have h1 := of_decide_eq_true h1
    obtain ⟨f, hf, rfl⟩ := qa_ex h1
    obtain ⟨F, rc, rd⟩ := u
    obtain ⟨b, hb⟩ : ∃ b, a.1 f = b := ⟨_, rfl⟩
    obtain ⟨cf, hcf⟩ : ∃ cf, a.2 f = cf := ⟨_, rfl⟩
    obtain ⟨G, hGe⟩ : ∃ G, F f = G := ⟨_, rfl⟩
    have hI : qf_inv b G cf := by rw [← hb, ← hcf, ← hGe]; exact hG f hf
    have hP : va_P (dC, dI) qf_cl (qf_w g dA (va_up F f G, rc, rd)) s.heap := by rw [← hGe, qf_upself]; exact hP
    have hGs : qf_good (va_up F f G, rc, rd) a := by rw [← hGe]; exact qf_good_same hG
    obtain ⟨hB, hGb, hH, -⟩ := id hI
    have h64 := (qf_bk_64 hB).2
    have eH : qa_H a f = qf_H G := by show qf_sm (a.2 f) 256 = qf_H G; rw [hcf]; exact qf_inv_sum hI
    have es : qa_maybe a (nI f) z = qf_b (decide (0 < a.2 f (qf_hash z))) := qa_on_f hf _ _
    refine lv_aload_n S.1 S.2.1 dX0_maybe_10 rfl (lv_at hl 0 rfl) ?_
    refine lv_iload_n S.1 S.2.1 dX0_maybe_11 rfl (lv_at hl 2 rfl) ?_
    refine yc_printOf S hK hP (hR.le (by decide) (by decide)) hl.1 (Nat.le_of_ble_eq_true rfl) dX0_maybe_12 ?_
    refine lv_istore_n (lv' := [(3, .int (nI (qf_hash z))), (0, .ref (g 0)), (1, .int (nI f)), (2, .int z)]) S.1 S.2.1 dX0_maybe_15 rfl hl (by decide) rfl (fun ls hl => ?_)
    refine lv_aload_n S.1 S.2.1 dX0_maybe_16 rfl (lv_at hl 1 rfl) ?_
    refine lv_iload_n S.1 S.2.1 dX0_maybe_17 rfl (lv_at hl 2 rfl) ?_
    refine lv_iload_n S.1 S.2.1 dX0_maybe_18 rfl (lv_at hl 0 rfl) ?_
    refine yc_timesOf S hK hP hf hI (qf_hash_lt z) (hR.le (by decide) (by decide)) hl.1 (Nat.le_of_ble_eq_true rfl) dX0_maybe_19 ?_
    have hle := qf_inv_le hI (qf_hash_lt z)
    refine qf_ifleN (tgt := 29) S.1 S.2.1 (by omega) dX0_maybe_22 (by decide) (fun h2 => ?_) (fun h2 => ?_)
    · refine lv_iconst (v := qf_b false) S.1 S.2.1 dX0_maybe_29 (by decide) ?_
      exact W.zret S.1 S.2.1 hr rfl (fun t ht hW => ⟨_, rfl, by rw [es, hcf, decide_eq_false (by omega)], ht⟩) (fun _ h => by cases h) dX0_maybe_30
    · refine lv_iconst (v := qf_b true) S.1 S.2.1 dX0_maybe_25 (by decide) ?_
      refine lv_goto (tgt := 30) S.1 S.2.1 dX0_maybe_26 (by decide) ?_
      exact W.zret S.1 S.2.1 hr rfl (fun t ht hW => ⟨_, rfl, by rw [es, hcf, decide_eq_true h2], ht⟩) (fun _ h => by cases h) dX0_maybe_30
  · have h1 := of_decide_eq_false h1
    refine lv_iconst (v := qf_b false) S.1 S.2.1 dX0_maybe_8 (by decide) ?_
    exact W.zret S.1 S.2.1 hr rfl (fun t ht hW => ⟨_, rfl, (qa_on_n h1 _ _).symm, ht⟩) (fun _ h => by cases h) dX0_maybe_9
set_option maxHeartbeats 4000000 in
set_option maxRecDepth 100000 in
theorem met_times (l : Launch) (dC : Nat → ClassId) (dI : Nat → Nat → Nat) (dA : Nat → ClassId) (g : Nat → Nat) (u : qf_QS) (a : qa_S) (x z : Int32) (hg : qf_dj g) (hG : qf_good u a) : Met l yX0_times (ws_ yX0_times cX0_times 3 (some .int)) ({ frames := 4, cells := 0, slots := 0, locals := 95 }) (qf_Pc g dA dC dI u [.int x, .int z]) (vp_Si (fun r => r = qa_times a x z)) 0 0 (fun _ => False) := by
  refine qf_met (by decide) rfl (Nat.le_of_ble_eq_true rfl) ?_
  intro p e s m below meth c ls S hr hlocks hP hK hl
  have hR : qf_RM ({ frames := 4, cells := 0, slots := 0, locals := 95 }) 4 95 := ⟨Nat.le_refl _, Nat.le_refl _⟩
  have hl : lv_has ls 3 [(0, .ref (g 0)), (1, .int x), (2, .int z)] := hl
  have hS : va_S (qf_A g) s.heap s.heap [] := va_S.rf
  refine lv_aload_n S.1 S.2.1 dX0_times_0 rfl (lv_at hl 0 rfl) ?_
  refine lv_iload_n S.1 S.2.1 dX0_times_1 rfl (lv_at hl 1 rfl) ?_
  refine yc_isFilter S hK hP (hR.le (by decide) (by decide)) hl.1 (Nat.le_of_ble_eq_true rfl) dX0_times_2 ?_
  refine qf_ifeq (tgt := 19) S.1 S.2.1 dX0_times_5 (by decide) (fun h1 => ?_) (fun h1 => ?_)
  · have h1 := of_decide_eq_false h1
    refine lv_iconst (v := (-1)) S.1 S.2.1 dX0_times_19 (by decide) ?_
    exact W.iret S.1 S.2.1 hr (fun t ht hW => ⟨_, rfl, (qa_on_n h1 _ _).symm, ht⟩) (fun _ h => by cases h) dX0_times_20
  · have h1 := of_decide_eq_true h1
    obtain ⟨f, hf, rfl⟩ := qa_ex h1
    obtain ⟨F, rc, rd⟩ := u
    obtain ⟨b, hb⟩ : ∃ b, a.1 f = b := ⟨_, rfl⟩
    obtain ⟨cf, hcf⟩ : ∃ cf, a.2 f = cf := ⟨_, rfl⟩
    obtain ⟨G, hGe⟩ : ∃ G, F f = G := ⟨_, rfl⟩
    have hI : qf_inv b G cf := by rw [← hb, ← hcf, ← hGe]; exact hG f hf
    have hP : va_P (dC, dI) qf_cl (qf_w g dA (va_up F f G, rc, rd)) s.heap := by rw [← hGe, qf_upself]; exact hP
    have hGs : qf_good (va_up F f G, rc, rd) a := by rw [← hGe]; exact qf_good_same hG
    obtain ⟨hB, hGb, hH, -⟩ := id hI
    have h64 := (qf_bk_64 hB).2
    have eH : qa_H a f = qf_H G := by show qf_sm (a.2 f) 256 = qf_H G; rw [hcf]; exact qf_inv_sum hI
    have es : qa_times a (nI f) z = (if ¬ z < 0 ∧ z ≤ 255 then nI (a.2 f z.toNatClampNeg) else -1) := qa_on_f hf _ _
    refine lv_iload_n S.1 S.2.1 dX0_times_8 rfl (lv_at hl 2 rfl) ?_
    refine lv_if_lt (tgt := 19) S.1 S.2.1 dX0_times_9 (by decide) (fun h2 => ?_) (fun h2 => ?_)
    · refine lv_iconst (v := (-1)) S.1 S.2.1 dX0_times_19 (by decide) ?_
      exact W.iret S.1 S.2.1 hr (fun t ht hW => ⟨_, rfl, by rw [es, if_neg (fun r => r.1 h2)], ht⟩) (fun _ h => by cases h) dX0_times_20
    · refine lv_iload_n S.1 S.2.1 dX0_times_12 rfl (lv_at hl 2 rfl) ?_
      refine lv_sipush (v := 255) S.1 S.2.1 dX0_times_13 (by decide) ?_
      refine lv_icmp_le (tgt := 21) S.1 S.2.1 dX0_times_16 (by decide) (fun h3 => ?_) (fun h3 => ?_)
      · obtain ⟨y, hy, rfl⟩ := nI_of2 (M := 255) (n := 255) (by decide) h2 h3
        refine lv_aload_n S.1 S.2.1 dX0_times_21 rfl (lv_at hl 0 rfl) ?_
        refine lv_iload_n S.1 S.2.1 dX0_times_22 rfl (lv_at hl 1 rfl) ?_
        refine lv_iload_n S.1 S.2.1 dX0_times_23 rfl (lv_at hl 2 rfl) ?_
        refine yc_timesOf S hK hP hf hI (by omega) (hR.le (by decide) (by decide)) hl.1 (Nat.le_of_ble_eq_true rfl) dX0_times_24 ?_
        exact W.iret S.1 S.2.1 hr (fun t ht hW => ⟨_, rfl, by rw [es, if_pos ⟨h2, h3⟩, hcf, nI_clamp (by omega)], ht⟩) (fun _ h => by cases h) dX0_times_27
      · refine lv_iconst (v := (-1)) S.1 S.2.1 dX0_times_19 (by decide) ?_
        exact W.iret S.1 S.2.1 hr (fun t ht hW => ⟨_, rfl, by rw [es, if_neg (fun r => h3 r.2)], ht⟩) (fun _ h => by cases h) dX0_times_20
set_option maxHeartbeats 4000000 in
set_option maxRecDepth 100000 in
theorem met_count (l : Launch) (dC : Nat → ClassId) (dI : Nat → Nat → Nat) (dA : Nat → ClassId) (g : Nat → Nat) (u : qf_QS) (a : qa_S) (x : Int32) (hg : qf_dj g) (hG : qf_good u a) : Met l yX0_count (ws_ yX0_count cX0_count 2 (some .int)) ({ frames := 1, cells := 0, slots := 0, locals := 21 }) (qf_Pc g dA dC dI u [.int x]) (vp_Si (fun r => r = qa_count a x)) 0 0 (fun _ => False) := by
  refine qf_met (by decide) rfl (Nat.le_of_ble_eq_true rfl) ?_
  intro p e s m below meth c ls S hr hlocks hP hK hl
  have hR : qf_RM ({ frames := 1, cells := 0, slots := 0, locals := 21 }) 1 21 := ⟨Nat.le_refl _, Nat.le_refl _⟩
  have hl : lv_has ls 2 [(0, .ref (g 0)), (1, .int x)] := hl
  have hS : va_S (qf_A g) s.heap s.heap [] := va_S.rf
  refine lv_aload_n S.1 S.2.1 dX0_count_0 rfl (lv_at hl 0 rfl) ?_
  refine lv_iload_n S.1 S.2.1 dX0_count_1 rfl (lv_at hl 1 rfl) ?_
  refine yc_isFilter S hK hP (hR.le (by decide) (by decide)) hl.1 (Nat.le_of_ble_eq_true rfl) dX0_count_2 ?_
  refine qf_ifeq (tgt := 17) S.1 S.2.1 dX0_count_5 (by decide) (fun h1 => ?_) (fun h1 => ?_)
  · have h1 := of_decide_eq_false h1
    refine lv_iconst (v := (-1)) S.1 S.2.1 dX0_count_17 (by decide) ?_
    exact W.iret S.1 S.2.1 hr (fun t ht hW => ⟨_, rfl, (qa_on_n h1 _ _).symm, ht⟩) (fun _ h => by cases h) dX0_count_18
  · have h1 := of_decide_eq_true h1
    obtain ⟨f, hf, rfl⟩ := qa_ex h1
    obtain ⟨F, rc, rd⟩ := u
    obtain ⟨b, hb⟩ : ∃ b, a.1 f = b := ⟨_, rfl⟩
    obtain ⟨cf, hcf⟩ : ∃ cf, a.2 f = cf := ⟨_, rfl⟩
    obtain ⟨G, hGe⟩ : ∃ G, F f = G := ⟨_, rfl⟩
    have hI : qf_inv b G cf := by rw [← hb, ← hcf, ← hGe]; exact hG f hf
    have hP : va_P (dC, dI) qf_cl (qf_w g dA (va_up F f G, rc, rd)) s.heap := by rw [← hGe, qf_upself]; exact hP
    have hGs : qf_good (va_up F f G, rc, rd) a := by rw [← hGe]; exact qf_good_same hG
    obtain ⟨hB, hGb, hH, -⟩ := id hI
    have h64 := (qf_bk_64 hB).2
    have eH : qa_H a f = qf_H G := by show qf_sm (a.2 f) 256 = qf_H G; rw [hcf]; exact qf_inv_sum hI
    have es : qa_count a (nI f) = nI (qa_H a f) := qa_on_f hf _ _
    refine lv_aload_n S.1 S.2.1 dX0_count_8 rfl (lv_at hl 0 rfl) ?_
    refine xg_H S hK hP dX0_count_9 ?_
    refine lv_iload_n S.1 S.2.1 dX0_count_12 rfl (lv_at hl 1 rfl) ?_
    refine yl_H S hK hP hf dX0_count_13 ?_
    refine lv_goto (tgt := 18) S.1 S.2.1 dX0_count_14 (by decide) ?_
    exact W.iret S.1 S.2.1 hr (fun t ht hW => ⟨_, rfl, by rw [es, eH], ht⟩) (fun _ h => by cases h) dX0_count_18
set_option maxHeartbeats 4000000 in
set_option maxRecDepth 100000 in
theorem met_size (l : Launch) (dC : Nat → ClassId) (dI : Nat → Nat → Nat) (dA : Nat → ClassId) (g : Nat → Nat) (u : qf_QS) (a : qa_S) (x : Int32) (hg : qf_dj g) (hG : qf_good u a) : Met l yX0_size (ws_ yX0_size cX0_size 2 (some .int)) ({ frames := 1, cells := 0, slots := 0, locals := 21 }) (qf_Pc g dA dC dI u [.int x]) (vp_Si (fun r => r = qa_size a x)) 0 0 (fun _ => False) := by
  refine qf_met (by decide) rfl (Nat.le_of_ble_eq_true rfl) ?_
  intro p e s m below meth c ls S hr hlocks hP hK hl
  have hR : qf_RM ({ frames := 1, cells := 0, slots := 0, locals := 21 }) 1 21 := ⟨Nat.le_refl _, Nat.le_refl _⟩
  have hl : lv_has ls 2 [(0, .ref (g 0)), (1, .int x)] := hl
  have hS : va_S (qf_A g) s.heap s.heap [] := va_S.rf
  refine lv_aload_n S.1 S.2.1 dX0_size_0 rfl (lv_at hl 0 rfl) ?_
  refine lv_iload_n S.1 S.2.1 dX0_size_1 rfl (lv_at hl 1 rfl) ?_
  refine yc_isFilter S hK hP (hR.le (by decide) (by decide)) hl.1 (Nat.le_of_ble_eq_true rfl) dX0_size_2 ?_
  refine qf_ifeq (tgt := 16) S.1 S.2.1 dX0_size_5 (by decide) (fun h1 => ?_) (fun h1 => ?_)
  · have h1 := of_decide_eq_false h1
    refine lv_iconst (v := (-1)) S.1 S.2.1 dX0_size_16 (by decide) ?_
    exact W.iret S.1 S.2.1 hr (fun t ht hW => ⟨_, rfl, (qa_on_n h1 _ _).symm, ht⟩) (fun _ h => by cases h) dX0_size_17
  · have h1 := of_decide_eq_true h1
    obtain ⟨f, hf, rfl⟩ := qa_ex h1
    obtain ⟨F, rc, rd⟩ := u
    obtain ⟨b, hb⟩ : ∃ b, a.1 f = b := ⟨_, rfl⟩
    obtain ⟨cf, hcf⟩ : ∃ cf, a.2 f = cf := ⟨_, rfl⟩
    obtain ⟨G, hGe⟩ : ∃ G, F f = G := ⟨_, rfl⟩
    have hI : qf_inv b G cf := by rw [← hb, ← hcf, ← hGe]; exact hG f hf
    have hP : va_P (dC, dI) qf_cl (qf_w g dA (va_up F f G, rc, rd)) s.heap := by rw [← hGe, qf_upself]; exact hP
    have hGs : qf_good (va_up F f G, rc, rd) a := by rw [← hGe]; exact qf_good_same hG
    obtain ⟨hB, hGb, hH, -⟩ := id hI
    have h64 := (qf_bk_64 hB).2
    have eH : qa_H a f = qf_H G := by show qf_sm (a.2 f) 256 = qf_H G; rw [hcf]; exact qf_inv_sum hI
    have es : qa_size a (nI f) = nI (2 ^ a.1 f) := qa_on_f hf _ _
    refine lv_aload_n S.1 S.2.1 dX0_size_8 rfl (lv_at hl 0 rfl) ?_
    refine lv_iload_n S.1 S.2.1 dX0_size_9 rfl (lv_at hl 1 rfl) ?_
    refine yc_slots S hK hP hf hGb hB (hR.le (by decide) (by decide)) hl.1 (Nat.le_of_ble_eq_true rfl) dX0_size_10 ?_
    refine lv_goto (tgt := 17) S.1 S.2.1 dX0_size_13 (by decide) ?_
    exact W.iret S.1 S.2.1 hr (fun t ht hW => ⟨_, rfl, by rw [es, hb], ht⟩) (fun _ h => by cases h) dX0_size_17
set_option maxHeartbeats 4000000 in
set_option maxRecDepth 100000 in
theorem met_grow (l : Launch) (dC : Nat → ClassId) (dI : Nat → Nat → Nat) (dA : Nat → ClassId) (g : Nat → Nat) (u : qf_QS) (a : qa_S) (x : Int32) (hg : qf_dj g) (hG : qf_good u a) : Met l yX0_grow (ws_ yX0_grow cX0_grow 2 (some .int)) ({ frames := 6, cells := 0, slots := 0, locals := 138 }) (qf_Pc g dA dC dI u [.int x]) (va_Qi (fun r u1 => r = (qa_grow a x).1 ∧ qf_good u1 (qa_grow a x).2) (qf_Bt g dA dC dI) (qf_A g)) 0 0 (qf_A g) := by
  refine qf_met (by decide) rfl (Nat.le_of_ble_eq_true rfl) ?_
  intro p e s m below meth c ls S hr hlocks hP hK hl
  have hR : qf_RM ({ frames := 6, cells := 0, slots := 0, locals := 138 }) 6 138 := ⟨Nat.le_refl _, Nat.le_refl _⟩
  have hl : lv_has ls 2 [(0, .ref (g 0)), (1, .int x)] := hl
  have hS : va_S (qf_A g) s.heap s.heap [] := va_S.rf
  refine lv_aload_n S.1 S.2.1 dX0_grow_0 rfl (lv_at hl 0 rfl) ?_
  refine lv_iload_n S.1 S.2.1 dX0_grow_1 rfl (lv_at hl 1 rfl) ?_
  refine yc_isFilter S hK hP (hR.le (by decide) (by decide)) hl.1 (Nat.le_of_ble_eq_true rfl) dX0_grow_2 ?_
  refine qf_ifne (tgt := 10) S.1 S.2.1 dX0_grow_5 (by decide) (fun h1 => ?_) (fun h1 => ?_)
  · have h1 := of_decide_eq_true h1
    obtain ⟨f, hf, rfl⟩ := qa_ex h1
    obtain ⟨F, rc, rd⟩ := u
    obtain ⟨b, hb⟩ : ∃ b, a.1 f = b := ⟨_, rfl⟩
    obtain ⟨cf, hcf⟩ : ∃ cf, a.2 f = cf := ⟨_, rfl⟩
    obtain ⟨G, hGe⟩ : ∃ G, F f = G := ⟨_, rfl⟩
    have hI : qf_inv b G cf := by rw [← hb, ← hcf, ← hGe]; exact hG f hf
    have hP : va_P (dC, dI) qf_cl (qf_w g dA (va_up F f G, rc, rd)) s.heap := by rw [← hGe, qf_upself]; exact hP
    have hGs : qf_good (va_up F f G, rc, rd) a := by rw [← hGe]; exact qf_good_same hG
    obtain ⟨hB, hGb, hH, -⟩ := id hI
    have h64 := (qf_bk_64 hB).2
    have eH : qa_H a f = qf_H G := by show qf_sm (a.2 f) 256 = qf_H G; rw [hcf]; exact qf_inv_sum hI
    have es : qa_grow a (nI f) = qa_growF a f := qa_on_f hf _ _
    have hb6 := hB.2
    refine lv_aload_n S.1 S.2.1 dX0_grow_10 rfl (lv_at hl 0 rfl) ?_
    refine xg_B S hK hP dX0_grow_11 ?_
    refine lv_iload_n S.1 S.2.1 dX0_grow_14 rfl (lv_at hl 1 rfl) ?_
    refine yl_B S hK hP hf dX0_grow_15 ?_
    refine qf_top (congrArg nI hGb) ?_
    refine lv_bipush (v := nI 6) S.1 S.2.1 dX0_grow_16 (by decide) ?_
    refine qf_icmpne (tgt := 24) S.1 S.2.1 (by omega) (by decide) dX0_grow_18 (by decide) (fun h2 => ?_) (fun h2 => ?_)
    · have hB2 : qf_bk (b + 1) := ⟨by have := hB.1; omega, by omega⟩
      refine lv_aload_n S.1 S.2.1 dX0_grow_24 rfl (lv_at hl 0 rfl) ?_
      refine lv_iload_n S.1 S.2.1 dX0_grow_25 rfl (lv_at hl 1 rfl) ?_
      refine lv_aload_n S.1 S.2.1 dX0_grow_26 rfl (lv_at hl 0 rfl) ?_
      refine xg_B S hK hP dX0_grow_27 ?_
      refine lv_iload_n S.1 S.2.1 dX0_grow_30 rfl (lv_at hl 1 rfl) ?_
      refine yl_B S hK hP hf dX0_grow_31 ?_
      refine qf_top (congrArg nI hGb) ?_
      refine lv_iconst (v := nI 1) S.1 S.2.1 dX0_grow_32 (by decide) ?_
      refine lv_iadd S.1 S.2.1 dX0_grow_33 ?_
      refine qf_top (nI_add _ _) ?_
      refine yc_resize S hK hP hS hg hf hI hB2 (by have : 2 ^ b ≤ 2 ^ (b + 1) := Nat.pow_le_pow_right (by decide) (by omega); omega) (hR.le (by decide) (by decide)) hl.1 (Nat.le_of_ble_eq_true rfl) dX0_grow_34 (fun G1 rc1 rd1 H locs hI1 hP hS => ?_)
      refine lv_aload_n S.1 S.2.1 dX0_grow_37 rfl (lv_at hl 0 rfl) ?_
      refine lv_iload_n S.1 S.2.1 dX0_grow_38 rfl (lv_at hl 1 rfl) ?_
      refine yc_slots S hK hP hf hI1.2.1 hB2 (hR.le (by decide) (by decide)) hl.1 (Nat.le_of_ble_eq_true rfl) dX0_grow_39 ?_
      exact W.iret S.1 S.2.1 hr (fun t ht hW => ⟨⟨_, (va_up F f G1, rc1, rd1), rfl, by rw [es, qa_growF, if_neg (by rw [hb]; exact h2)]; exact ⟨by show _ = nI (2 ^ (a.1 f + 1)); rw [hb], by show qf_good _ (qa_set a f (a.1 f + 1) (a.2 f)); rw [hb, hcf]; exact qf_good_set hG hI1⟩, by unfold qf_Bt; rw [ht]; exact hP⟩, hS.F ht⟩) hS.2.2 dX0_grow_42
    · refine lv_bipush (v := (-2)) S.1 S.2.1 dX0_grow_21 (by decide) ?_
      exact W.iret S.1 S.2.1 hr (fun t ht hW => ⟨⟨_, (va_up F f G, rc, rd), rfl, by rw [es, qa_growF, if_pos (by rw [hb]; exact h2)]; exact ⟨rfl, hGs⟩, by unfold qf_Bt; rw [ht]; exact hP⟩, hS.F ht⟩) hS.2.2 dX0_grow_23
  · have h1 := of_decide_eq_false h1
    refine lv_iconst (v := (-1)) S.1 S.2.1 dX0_grow_8 (by decide) ?_
    exact W.iret S.1 S.2.1 hr (fun t ht hW => ⟨⟨_, u, rfl, by rw [show qa_grow a x = (-1, a) from qa_on_n h1 _ _]; exact ⟨rfl, hG⟩, by unfold qf_Bt; rw [ht]; exact hP⟩, hS.F ht⟩) hS.2.2 dX0_grow_9
set_option maxHeartbeats 4000000 in
set_option maxRecDepth 100000 in
theorem met_shrink (l : Launch) (dC : Nat → ClassId) (dI : Nat → Nat → Nat) (dA : Nat → ClassId) (g : Nat → Nat) (u : qf_QS) (a : qa_S) (x : Int32) (hg : qf_dj g) (hG : qf_good u a) : Met l yX0_shrink (ws_ yX0_shrink cX0_shrink 2 (some .int)) ({ frames := 6, cells := 0, slots := 0, locals := 138 }) (qf_Pc g dA dC dI u [.int x]) (va_Qi (fun r u1 => r = (qa_shrink a x).1 ∧ qf_good u1 (qa_shrink a x).2) (qf_Bt g dA dC dI) (qf_A g)) 0 0 (qf_A g) := by
  refine qf_met (by decide) rfl (Nat.le_of_ble_eq_true rfl) ?_
  intro p e s m below meth c ls S hr hlocks hP hK hl
  have hR : qf_RM ({ frames := 6, cells := 0, slots := 0, locals := 138 }) 6 138 := ⟨Nat.le_refl _, Nat.le_refl _⟩
  have hl : lv_has ls 2 [(0, .ref (g 0)), (1, .int x)] := hl
  have hS : va_S (qf_A g) s.heap s.heap [] := va_S.rf
  refine lv_aload_n S.1 S.2.1 dX0_shrink_0 rfl (lv_at hl 0 rfl) ?_
  refine lv_iload_n S.1 S.2.1 dX0_shrink_1 rfl (lv_at hl 1 rfl) ?_
  refine yc_isFilter S hK hP (hR.le (by decide) (by decide)) hl.1 (Nat.le_of_ble_eq_true rfl) dX0_shrink_2 ?_
  refine qf_ifne (tgt := 10) S.1 S.2.1 dX0_shrink_5 (by decide) (fun h1 => ?_) (fun h1 => ?_)
  · have h1 := of_decide_eq_true h1
    obtain ⟨f, hf, rfl⟩ := qa_ex h1
    obtain ⟨F, rc, rd⟩ := u
    obtain ⟨b, hb⟩ : ∃ b, a.1 f = b := ⟨_, rfl⟩
    obtain ⟨cf, hcf⟩ : ∃ cf, a.2 f = cf := ⟨_, rfl⟩
    obtain ⟨G, hGe⟩ : ∃ G, F f = G := ⟨_, rfl⟩
    have hI : qf_inv b G cf := by rw [← hb, ← hcf, ← hGe]; exact hG f hf
    have hP : va_P (dC, dI) qf_cl (qf_w g dA (va_up F f G, rc, rd)) s.heap := by rw [← hGe, qf_upself]; exact hP
    have hGs : qf_good (va_up F f G, rc, rd) a := by rw [← hGe]; exact qf_good_same hG
    obtain ⟨hB, hGb, hH, -⟩ := id hI
    have h64 := (qf_bk_64 hB).2
    have eH : qa_H a f = qf_H G := by show qf_sm (a.2 f) 256 = qf_H G; rw [hcf]; exact qf_inv_sum hI
    have es : qa_shrink a (nI f) = qa_shrinkF a f := qa_on_f hf _ _
    have hb3 := hB.1
    have hb6 := hB.2
    refine lv_aload_n S.1 S.2.1 dX0_shrink_10 rfl (lv_at hl 0 rfl) ?_
    refine xg_B S hK hP dX0_shrink_11 ?_
    refine lv_iload_n S.1 S.2.1 dX0_shrink_14 rfl (lv_at hl 1 rfl) ?_
    refine yl_B S hK hP hf dX0_shrink_15 ?_
    refine qf_top (congrArg nI hGb) ?_
    refine lv_iconst (v := nI 3) S.1 S.2.1 dX0_shrink_16 (by decide) ?_
    refine qf_icmpeq (tgt := 38) S.1 S.2.1 (by omega) (by decide) dX0_shrink_17 (by decide) (fun h2 => ?_) (fun h2 => ?_)
    · refine lv_bipush (v := (-3)) S.1 S.2.1 dX0_shrink_38 (by decide) ?_
      exact W.iret S.1 S.2.1 hr (fun t ht hW => ⟨⟨_, (va_up F f G, rc, rd), rfl, by rw [es, qa_shrinkF, if_pos (by rw [hb]; exact Or.inl h2)]; exact ⟨rfl, hGs⟩, by unfold qf_Bt; rw [ht]; exact hP⟩, hS.F ht⟩) hS.2.2 dX0_shrink_40
    · refine lv_aload_n S.1 S.2.1 dX0_shrink_20 rfl (lv_at hl 0 rfl) ?_
      refine xg_H S hK hP dX0_shrink_21 ?_
      refine lv_iload_n S.1 S.2.1 dX0_shrink_24 rfl (lv_at hl 1 rfl) ?_
      refine yl_H S hK hP hf dX0_shrink_25 ?_
      refine lv_aload_n S.1 S.2.1 dX0_shrink_26 rfl (lv_at hl 0 rfl) ?_
      refine lv_iload_n S.1 S.2.1 dX0_shrink_27 rfl (lv_at hl 1 rfl) ?_
      refine yc_slots S hK hP hf hGb hB (hR.le (by decide) (by decide)) hl.1 (Nat.le_of_ble_eq_true rfl) dX0_shrink_28 ?_
      refine lv_iconst (v := nI 2) S.1 S.2.1 dX0_shrink_31 (by decide) ?_
      refine lv_idiv S.1 S.2.1 dX0_shrink_32 (by decide) ?_
      refine lv_iconst (v := nI 1) S.1 S.2.1 dX0_shrink_33 (by decide) ?_
      refine lv_isub S.1 S.2.1 dX0_shrink_34 ?_
      refine qf_top (qn_half hB) ?_
      refine qf_icmple (tgt := 41) S.1 S.2.1 (by omega) (by omega) dX0_shrink_35 (by decide) (fun h3 => ?_) (fun h3 => ?_)
      · have hB2 : qf_bk (b - 1) := ⟨by omega, by omega⟩
        have hpow : 2 ^ b / 2 = 2 ^ (b - 1) := by rcases qf_bk_4 hB with e | e | e | e <;> subst e <;> decide
        have hpos : 0 < 2 ^ (b - 1) := qf_bk_pos hB2
        refine lv_aload_n S.1 S.2.1 dX0_shrink_41 rfl (lv_at hl 0 rfl) ?_
        refine lv_iload_n S.1 S.2.1 dX0_shrink_42 rfl (lv_at hl 1 rfl) ?_
        refine lv_aload_n S.1 S.2.1 dX0_shrink_43 rfl (lv_at hl 0 rfl) ?_
        refine xg_B S hK hP dX0_shrink_44 ?_
        refine lv_iload_n S.1 S.2.1 dX0_shrink_47 rfl (lv_at hl 1 rfl) ?_
        refine yl_B S hK hP hf dX0_shrink_48 ?_
        refine qf_top (congrArg nI hGb) ?_
        refine lv_iconst (v := nI 1) S.1 S.2.1 dX0_shrink_49 (by decide) ?_
        refine lv_isub S.1 S.2.1 dX0_shrink_50 ?_
        refine qf_top (qn_sub (by omega)) ?_
        refine yc_resize S hK hP hS hg hf hI hB2 (by omega) (hR.le (by decide) (by decide)) hl.1 (Nat.le_of_ble_eq_true rfl) dX0_shrink_51 (fun G1 rc1 rd1 H locs hI1 hP hS => ?_)
        refine lv_aload_n S.1 S.2.1 dX0_shrink_54 rfl (lv_at hl 0 rfl) ?_
        refine lv_iload_n S.1 S.2.1 dX0_shrink_55 rfl (lv_at hl 1 rfl) ?_
        refine yc_slots S hK hP hf hI1.2.1 hB2 (hR.le (by decide) (by decide)) hl.1 (Nat.le_of_ble_eq_true rfl) dX0_shrink_56 ?_
        exact W.iret S.1 S.2.1 hr (fun t ht hW => ⟨⟨_, (va_up F f G1, rc1, rd1), rfl, by rw [es, qa_shrinkF, if_neg (by rw [hb, eH]; omega)]; exact ⟨by show _ = nI (2 ^ (a.1 f - 1)); rw [hb], by show qf_good _ (qa_set a f (a.1 f - 1) (a.2 f)); rw [hb, hcf]; exact qf_good_set hG hI1⟩, by unfold qf_Bt; rw [ht]; exact hP⟩, hS.F ht⟩) hS.2.2 dX0_shrink_59
      · refine lv_bipush (v := (-3)) S.1 S.2.1 dX0_shrink_38 (by decide) ?_
        exact W.iret S.1 S.2.1 hr (fun t ht hW => ⟨⟨_, (va_up F f G, rc, rd), rfl, by rw [es, qa_shrinkF, if_pos (by rw [hb, eH]; exact Or.inr h3)]; exact ⟨rfl, hGs⟩, by unfold qf_Bt; rw [ht]; exact hP⟩, hS.F ht⟩) hS.2.2 dX0_shrink_40
  · have h1 := of_decide_eq_false h1
    refine lv_iconst (v := (-1)) S.1 S.2.1 dX0_shrink_8 (by decide) ?_
    exact W.iret S.1 S.2.1 hr (fun t ht hW => ⟨⟨_, u, rfl, by rw [show qa_shrink a x = (-1, a) from qa_on_n h1 _ _]; exact ⟨rfl, hG⟩, by unfold qf_Bt; rw [ht]; exact hP⟩, hS.F ht⟩) hS.2.2 dX0_shrink_9
set_option maxHeartbeats 4000000 in
set_option maxRecDepth 100000 in
theorem met_clear (l : Launch) (dC : Nat → ClassId) (dI : Nat → Nat → Nat) (dA : Nat → ClassId) (g : Nat → Nat) (u : qf_QS) (a : qa_S) (x : Int32) (hg : qf_dj g) (hG : qf_good u a) : Met l yX0_clear (ws_ yX0_clear cX0_clear 3 (some .int)) ({ frames := 3, cells := 0, slots := 0, locals := 66 }) (qf_Pc g dA dC dI u [.int x]) (va_Qi (fun r u1 => r = (qa_clear a x).1 ∧ qf_good u1 (qa_clear a x).2) (qf_Bt g dA dC dI) (qf_A g)) 0 0 (qf_A g) := by
  refine qf_met (by decide) rfl (Nat.le_of_ble_eq_true rfl) ?_
  intro p e s m below meth c ls S hr hlocks hP hK hl
  have hR : qf_RM ({ frames := 3, cells := 0, slots := 0, locals := 66 }) 3 66 := ⟨Nat.le_refl _, Nat.le_refl _⟩
  have hl : lv_has ls 3 [(0, .ref (g 0)), (1, .int x)] := hl
  have hS : va_S (qf_A g) s.heap s.heap [] := va_S.rf
  refine lv_aload_n S.1 S.2.1 dX0_clear_0 rfl (lv_at hl 0 rfl) ?_
  refine lv_iload_n S.1 S.2.1 dX0_clear_1 rfl (lv_at hl 1 rfl) ?_
  refine yc_isFilter S hK hP (hR.le (by decide) (by decide)) hl.1 (Nat.le_of_ble_eq_true rfl) dX0_clear_2 ?_
  refine qf_ifne (tgt := 10) S.1 S.2.1 dX0_clear_5 (by decide) (fun h1 => ?_) (fun h1 => ?_)
  · have h1 := of_decide_eq_true h1
    obtain ⟨f, hf, rfl⟩ := qa_ex h1
    obtain ⟨F, rc, rd⟩ := u
    obtain ⟨b, hb⟩ : ∃ b, a.1 f = b := ⟨_, rfl⟩
    obtain ⟨cf, hcf⟩ : ∃ cf, a.2 f = cf := ⟨_, rfl⟩
    obtain ⟨G, hGe⟩ : ∃ G, F f = G := ⟨_, rfl⟩
    have hI : qf_inv b G cf := by rw [← hb, ← hcf, ← hGe]; exact hG f hf
    have hP : va_P (dC, dI) qf_cl (qf_w g dA (va_up F f G, rc, rd)) s.heap := by rw [← hGe, qf_upself]; exact hP
    have hGs : qf_good (va_up F f G, rc, rd) a := by rw [← hGe]; exact qf_good_same hG
    obtain ⟨hB, hGb, hH, -⟩ := id hI
    have h64 := (qf_bk_64 hB).2
    have eH : qa_H a f = qf_H G := by show qf_sm (a.2 f) 256 = qf_H G; rw [hcf]; exact qf_inv_sum hI
    have es : qa_clear a (nI f) = (nI (qa_H a f), qa_set a f (a.1 f) (fun _ => 0)) := qa_on_f hf _ _
    refine lv_aload_n S.1 S.2.1 dX0_clear_10 rfl (lv_at hl 0 rfl) ?_
    refine xg_H S hK hP dX0_clear_11 ?_
    refine lv_iload_n S.1 S.2.1 dX0_clear_14 rfl (lv_at hl 1 rfl) ?_
    refine yl_H S hK hP hf dX0_clear_15 ?_
    refine lv_istore_n (lv' := [(2, .int (nI (qf_H G))), (0, .ref (g 0)), (1, .int (nI f))]) S.1 S.2.1 dX0_clear_16 rfl hl (by decide) rfl (fun ls hl => ?_)
    refine lv_aload_n S.1 S.2.1 dX0_clear_17 rfl (lv_at hl 1 rfl) ?_
    refine lv_iload_n S.1 S.2.1 dX0_clear_18 rfl (lv_at hl 2 rfl) ?_
    refine yc_empty S hK hP hS hg hf (hR.le (by decide) (by decide)) hl.1 (Nat.le_of_ble_eq_true rfl) dX0_clear_19 (fun G1 H locs k1 k2 k3 hP hS => ?_)
    refine lv_iload_n S.1 S.2.1 dX0_clear_22 rfl (lv_at hl 0 rfl) ?_
    exact W.iret S.1 S.2.1 hr (fun t ht hW => ⟨⟨_, (va_up F f G1, rc, rd), rfl, by rw [es]; exact ⟨by show _ = nI (qa_H a f); rw [eH], by show qf_good _ (qa_set a f (a.1 f) (fun _ => 0)); rw [hb]; exact qf_good_set hG (qf_inv_empty hB (k1.trans hGb) k2 k3)⟩, by unfold qf_Bt; rw [ht]; exact hP⟩, hS.F ht⟩) hS.2.2 dX0_clear_23
  · have h1 := of_decide_eq_false h1
    refine lv_iconst (v := (-1)) S.1 S.2.1 dX0_clear_8 (by decide) ?_
    exact W.iret S.1 S.2.1 hr (fun t ht hW => ⟨⟨_, u, rfl, by rw [show qa_clear a x = (-1, a) from qa_on_n h1 _ _]; exact ⟨rfl, hG⟩, by unfold qf_Bt; rw [ht]; exact hP⟩, hS.F ht⟩) hS.2.2 dX0_clear_9
end
section
/-! print and pour -/
section QPR
variable {p : Program} {l : Launch} {e : Env} {R : Room} {s : State} {m : MethodId} {args : Array Value} {below : List Frame} {meth : Method} {c : Code} {H H0 : Heap} {locs : List Loc} {cells slots : Nat} {Q : State → Prop} {cc : ByteArray} {pc nL : Nat} {ls : Array Slot} {rest : List Value} {g : Nat → Nat} {dC : Nat → ClassId} {dI : Nat → Nat → Nat} {dA : Nat → ClassId} {F : Nat → qf_FS} {f b : Nat} {G : qf_FS} {rc : Nat} {rd : Nat → Nat} {u : qf_QS}
set_option maxHeartbeats 4000000 in
set_option maxRecDepth 100000 in
theorem pr_in (S : CallFix p m c cX0_print 7 s args lw_all RX0) (hK : va_K (dC, dI) qf_cl (qf_tys dA) s) (hf : f < 2) (hR : qf_RM R 5 115) (hP : va_P (dC, dI) qf_cl (qf_w g dA (va_up F f G, rc, rd)) H) {q1 q2 : Int32} {i : Nat} (hi : i < rc) (hrc : rc < 64) (hrd : ∀ j, j < rc → rd j < 256) (kk : ∀ ls, lv_has ls 7 [(0, .ref (g 0)), (1, .int q1), (2, .int q2), (3, .int (nI i)), (4, .int (nI (qf_ct (fun j => decide (rd j < rd i)) 0 rc))), (5, .int (nI (qf_ct (fun j => rd j == rd i) 0 rc)))] → W p l e R s m args below meth c H locs 0 0 Q (F0 m 104 ls [])) :
    ∀ (n j sl eq : Nat), rc = j + n → sl = qf_ct (fun j => decide (rd j < rd i)) 0 j → eq = qf_ct (fun j => rd j == rd i) 0 j → ∀ ls, lv_has ls 7 [(0, .ref (g 0)), (1, .int q1), (2, .int q2), (3, .int (nI i)), (4, .int (nI sl)), (5, .int (nI eq)), (6, .int (nI j))] → W p l e R s m args below meth c H locs 0 0 Q (F0 m 51 ls []) := by
  have hsl0 : ∀ j, qf_ct (fun j => decide (rd j < rd i)) 0 (j + 1) = qf_ct (fun j => decide (rd j < rd i)) 0 j + if rd j < rd i then 1 else 0 := fun j => by
    show qf_ct (fun j => decide (rd j < rd i)) 0 j + (if decide (rd (0 + j) < rd i) = true then 1 else 0) = _
    rw [Nat.zero_add]
    simp only [decide_eq_true_eq]
  intro n
  induction n using Nat.strongRecOn with
  | ind n ih =>
    intro j sl eq hn hsl heq ls hl
    refine lv_iload S.1 S.2.1 dX0_print_51 (lv_at hl 6 rfl) ?_
    refine lv_aload_n S.1 S.2.1 dX0_print_53 rfl (lv_at hl 0 rfl) ?_
    refine xg_C S hK hP dX0_print_54 ?_
    refine qf_top (y := nI rc) rfl ?_
    refine qf_icmpge (tgt := 104) S.1 S.2.1 (by omega) (by omega) dX0_print_57 (by decide) (fun h1 => ?_) (fun h1 => ?_)
    · have e1 : j = rc := by omega
      subst e1
      exact kk ls (by rw [← hsl, ← heq]; exact lv_sub hl [0, 1, 2, 3, 4, 5] rfl)
    · have bj := hrd j h1
      have bi := hrd i hi
      refine lv_aload_n S.1 S.2.1 dX0_print_60 rfl (lv_at hl 0 rfl) ?_
      refine xg_D S hK hP dX0_print_61 ?_
      refine lv_iload S.1 S.2.1 dX0_print_64 (lv_at hl 6 rfl) ?_
      refine xl_D S hK hP (by omega) dX0_print_66 ?_
      refine qf_top (y := nI (rd j)) rfl ?_
      refine lv_aload_n S.1 S.2.1 dX0_print_67 rfl (lv_at hl 0 rfl) ?_
      refine xg_D S hK hP dX0_print_68 ?_
      refine lv_iload_n S.1 S.2.1 dX0_print_71 rfl (lv_at hl 3 rfl) ?_
      refine xl_D S hK hP (by omega) dX0_print_72 ?_
      refine qf_top (y := nI (rd i)) rfl ?_
      refine qf_icmpge (tgt := 79) S.1 S.2.1 (by omega) (by omega) dX0_print_73 (by decide) (fun h2 => ?_) (fun h2 => ?_)
      · refine lv_aload_n S.1 S.2.1 dX0_print_79 rfl (lv_at hl 0 rfl) ?_
        refine xg_D S hK hP dX0_print_80 ?_
        refine lv_iload S.1 S.2.1 dX0_print_83 (lv_at hl 6 rfl) ?_
        refine xl_D S hK hP (by omega) dX0_print_85 ?_
        refine qf_top (y := nI (rd j)) rfl ?_
        refine lv_aload_n S.1 S.2.1 dX0_print_86 rfl (lv_at hl 0 rfl) ?_
        refine xg_D S hK hP dX0_print_87 ?_
        refine lv_iload_n S.1 S.2.1 dX0_print_90 rfl (lv_at hl 3 rfl) ?_
        refine xl_D S hK hP (by omega) dX0_print_91 ?_
        refine qf_top (y := nI (rd i)) rfl ?_
        refine qf_icmpne (tgt := 98) S.1 S.2.1 (by omega) (by omega) dX0_print_92 (by decide) (fun h3 => ?_) (fun h3 => ?_)
        · refine lv_iinc (v := nI (j + 1)) (lv' := [(6, .int (nI (j + 1))), (0, .ref (g 0)), (1, .int q1), (2, .int q2), (3, .int (nI i)), (4, .int (nI sl)), (5, .int (nI eq))]) S.1 S.2.1 dX0_print_98 hl (k := 6) rfl (nI_1 _) (by decide) rfl (fun ls hl => ?_)
          refine lv_goto (tgt := 51) S.1 S.2.1 dX0_print_101 (by decide) ?_
          exact ih (n - 1) (by omega) (j + 1) (sl) (eq) (by omega) (by rw [hsl0 j, if_neg (by omega)]; omega) (by rw [qf_ct_next, if_neg h3]; omega) ls (lv_sub hl [1, 2, 3, 4, 5, 6, 0] rfl)
        · refine lv_iinc (v := nI (eq + 1)) (lv' := [(5, .int (nI (eq + 1))), (0, .ref (g 0)), (1, .int q1), (2, .int q2), (3, .int (nI i)), (4, .int (nI sl)), (6, .int (nI j))]) S.1 S.2.1 dX0_print_95 hl (k := 5) rfl (nI_1 _) (by decide) rfl (fun ls hl => ?_)
          refine lv_iinc (v := nI (j + 1)) (lv' := [(6, .int (nI (j + 1))), (5, .int (nI (eq + 1))), (0, .ref (g 0)), (1, .int q1), (2, .int q2), (3, .int (nI i)), (4, .int (nI sl))]) S.1 S.2.1 dX0_print_98 hl (k := 6) rfl (nI_1 _) (by decide) rfl (fun ls hl => ?_)
          refine lv_goto (tgt := 51) S.1 S.2.1 dX0_print_101 (by decide) ?_
          exact ih (n - 1) (by omega) (j + 1) (sl) (eq + 1) (by omega) (by rw [hsl0 j, if_neg (by omega)]; omega) (by rw [qf_ct_next, if_pos h3]; omega) ls (lv_sub hl [2, 3, 4, 5, 6, 1, 0] rfl)
      · refine lv_iinc (v := nI (sl + 1)) (lv' := [(4, .int (nI (sl + 1))), (0, .ref (g 0)), (1, .int q1), (2, .int q2), (3, .int (nI i)), (5, .int (nI eq)), (6, .int (nI j))]) S.1 S.2.1 dX0_print_76 hl (k := 4) rfl (nI_1 _) (by decide) rfl (fun ls hl => ?_)
        refine lv_aload_n S.1 S.2.1 dX0_print_79 rfl (lv_at hl 1 rfl) ?_
        refine xg_D S hK hP dX0_print_80 ?_
        refine lv_iload S.1 S.2.1 dX0_print_83 (lv_at hl 6 rfl) ?_
        refine xl_D S hK hP (by omega) dX0_print_85 ?_
        refine qf_top (y := nI (rd j)) rfl ?_
        refine lv_aload_n S.1 S.2.1 dX0_print_86 rfl (lv_at hl 1 rfl) ?_
        refine xg_D S hK hP dX0_print_87 ?_
        refine lv_iload_n S.1 S.2.1 dX0_print_90 rfl (lv_at hl 4 rfl) ?_
        refine xl_D S hK hP (by omega) dX0_print_91 ?_
        refine qf_top (y := nI (rd i)) rfl ?_
        refine qf_icmpne (tgt := 98) S.1 S.2.1 (by omega) (by omega) dX0_print_92 (by decide) (fun h3 => ?_) (fun h3 => ?_)
        · refine lv_iinc (v := nI (j + 1)) (lv' := [(6, .int (nI (j + 1))), (4, .int (nI (sl + 1))), (0, .ref (g 0)), (1, .int q1), (2, .int q2), (3, .int (nI i)), (5, .int (nI eq))]) S.1 S.2.1 dX0_print_98 hl (k := 6) rfl (nI_1 _) (by decide) rfl (fun ls hl => ?_)
          refine lv_goto (tgt := 51) S.1 S.2.1 dX0_print_101 (by decide) ?_
          exact ih (n - 1) (by omega) (j + 1) (sl + 1) (eq) (by omega) (by rw [hsl0 j, if_pos (by omega)]; omega) (by rw [qf_ct_next, if_neg h3]; omega) ls (lv_sub hl [2, 3, 4, 5, 1, 6, 0] rfl)
        · refine lv_iinc (v := nI (eq + 1)) (lv' := [(5, .int (nI (eq + 1))), (4, .int (nI (sl + 1))), (0, .ref (g 0)), (1, .int q1), (2, .int q2), (3, .int (nI i)), (6, .int (nI j))]) S.1 S.2.1 dX0_print_95 hl (k := 5) rfl (nI_1 _) (by decide) rfl (fun ls hl => ?_)
          refine lv_iinc (v := nI (j + 1)) (lv' := [(6, .int (nI (j + 1))), (5, .int (nI (eq + 1))), (4, .int (nI (sl + 1))), (0, .ref (g 0)), (1, .int q1), (2, .int q2), (3, .int (nI i))]) S.1 S.2.1 dX0_print_98 hl (k := 6) rfl (nI_1 _) (by decide) rfl (fun ls hl => ?_)
          refine lv_goto (tgt := 51) S.1 S.2.1 dX0_print_101 (by decide) ?_
          exact ih (n - 1) (by omega) (j + 1) (sl + 1) (eq + 1) (by omega) (by rw [hsl0 j, if_pos (by omega)]; omega) (by rw [qf_ct_next, if_pos h3]; omega) ls (lv_sub hl [3, 4, 5, 6, 2, 1, 0] rfl)
set_option maxHeartbeats 4000000 in
set_option maxRecDepth 100000 in
theorem pr_out (S : CallFix p m c cX0_print 7 s args lw_all RX0) (hK : va_K (dC, dI) qf_cl (qf_tys dA) s) (hf : f < 2) (hR : qf_RM R 5 115) (hP : va_P (dC, dI) qf_cl (qf_w g dA (va_up F f G, rc, rd)) H) {q1 : Int32} {k : Nat} (hk : k < 64) (hrc : rc < 64) (hrd : ∀ j, j < rc → rd j < 256) (kk : ∀ (i : Nat) (ls : Array Slot), i < rc → qf_ct (fun j => decide (rd j < rd i)) 0 rc ≤ k → k < qf_ct (fun j => decide (rd j < rd i)) 0 rc + qf_ct (fun j => rd j == rd i) 0 rc → W p l e R s m args below meth c H locs 0 0 Q (F0 m 125 ls [.int (nI (rd i))])) :
    ∀ (n i : Nat), rc = i + n → (∃ i0, i ≤ i0 ∧ i0 < rc ∧ qf_ct (fun j => decide (rd j < rd i0)) 0 rc ≤ k ∧ k < qf_ct (fun j => decide (rd j < rd i0)) 0 rc + qf_ct (fun j => rd j == rd i0) 0 rc) → ∀ ls, lv_has ls 7 [(0, .ref (g 0)), (1, .int q1), (2, .int (nI k)), (3, .int (nI i))] → W p l e R s m args below meth c H locs 0 0 Q (F0 m 34 ls []) := by
  intro n
  induction n using Nat.strongRecOn with
  | ind n ih =>
    intro i hn hex ls hl
    refine lv_iload_n S.1 S.2.1 dX0_print_34 rfl (lv_at hl 3 rfl) ?_
    refine lv_aload_n S.1 S.2.1 dX0_print_35 rfl (lv_at hl 0 rfl) ?_
    refine xg_C S hK hP dX0_print_36 ?_
    refine qf_top (y := nI rc) rfl ?_
    refine qf_icmpge (tgt := 132) S.1 S.2.1 (by omega) (by omega) dX0_print_39 (by decide) (fun h1 => ?_) (fun h1 => ?_)
    · obtain ⟨i0, r1, r2, _⟩ := hex
      omega
    · refine lv_iconst (v := nI 0) S.1 S.2.1 dX0_print_42 (by decide) ?_
      refine lv_istore (lv' := [(4, .int (nI 0)), (0, .ref (g 0)), (1, .int q1), (2, .int (nI k)), (3, .int (nI i))]) S.1 S.2.1 dX0_print_43 hl (by decide) rfl (fun ls hl => ?_)
      refine lv_iconst (v := nI 0) S.1 S.2.1 dX0_print_45 (by decide) ?_
      refine lv_istore (lv' := [(5, .int (nI 0)), (4, .int (nI 0)), (0, .ref (g 0)), (1, .int q1), (2, .int (nI k)), (3, .int (nI i))]) S.1 S.2.1 dX0_print_46 hl (by decide) rfl (fun ls hl => ?_)
      refine lv_iconst (v := nI 0) S.1 S.2.1 dX0_print_48 (by decide) ?_
      refine lv_istore (lv' := [(6, .int (nI 0)), (5, .int (nI 0)), (4, .int (nI 0)), (0, .ref (g 0)), (1, .int q1), (2, .int (nI k)), (3, .int (nI i))]) S.1 S.2.1 dX0_print_49 hl (by decide) rfl (fun ls hl => ?_)
      refine pr_in S hK hf hR hP (i := i) h1 hrc hrd (fun ls hl => ?_) rc 0 0 0 (by omega) rfl rfl ls (lv_sub hl [3, 4, 5, 6, 2, 1, 0] rfl)
      have l1 := qf_ct_le (fun j => decide (rd j < rd i)) 0 rc
      have l2 := qf_ct_le (fun j => rd j == rd i) 0 rc
      refine lv_iload S.1 S.2.1 dX0_print_104 (lv_at hl 4 rfl) ?_
      refine lv_iload_n S.1 S.2.1 dX0_print_106 rfl (lv_at hl 2 rfl) ?_
      refine qf_icmpgt (tgt := 126) S.1 S.2.1 (by omega) (by omega) dX0_print_107 (by decide) (fun h2 => ?_) (fun h2 => ?_)
      · refine lv_iinc (v := nI (i + 1)) (lv' := [(3, .int (nI (i + 1))), (0, .ref (g 0)), (1, .int q1), (2, .int (nI k)), (4, .int (nI (qf_ct (fun j => decide (rd j < rd i)) 0 rc))), (5, .int (nI (qf_ct (fun j => rd j == rd i) 0 rc)))]) S.1 S.2.1 dX0_print_126 hl (k := 3) rfl (nI_1 _) (by decide) rfl (fun ls hl => ?_)
        refine lv_goto (tgt := 34) S.1 S.2.1 dX0_print_129 (by decide) ?_
        exact ih (n - 1) (by omega) (i + 1) (by omega) (by
        obtain ⟨i0, r1, r2, r3, r4⟩ := hex
        refine ⟨i0, ?_, r2, r3, r4⟩
        rcases Nat.eq_or_lt_of_le r1 with q | q
        · exfalso
          subst q
          omega
        · exact q) ls (lv_sub hl [1, 2, 3, 0] rfl)
      · refine lv_iload_n S.1 S.2.1 dX0_print_110 rfl (lv_at hl 2 rfl) ?_
        refine lv_iload S.1 S.2.1 dX0_print_111 (lv_at hl 4 rfl) ?_
        refine lv_iload S.1 S.2.1 dX0_print_113 (lv_at hl 5 rfl) ?_
        refine lv_iadd S.1 S.2.1 dX0_print_115 ?_
        refine qf_top (nI_add _ _) ?_
        refine qf_icmpge (tgt := 126) S.1 S.2.1 (by omega) (by omega) dX0_print_116 (by decide) (fun h3 => ?_) (fun h3 => ?_)
        · refine lv_iinc (v := nI (i + 1)) (lv' := [(3, .int (nI (i + 1))), (0, .ref (g 0)), (1, .int q1), (2, .int (nI k)), (4, .int (nI (qf_ct (fun j => decide (rd j < rd i)) 0 rc))), (5, .int (nI (qf_ct (fun j => rd j == rd i) 0 rc)))]) S.1 S.2.1 dX0_print_126 hl (k := 3) rfl (nI_1 _) (by decide) rfl (fun ls hl => ?_)
          refine lv_goto (tgt := 34) S.1 S.2.1 dX0_print_129 (by decide) ?_
          exact ih (n - 1) (by omega) (i + 1) (by omega) (by
        obtain ⟨i0, r1, r2, r3, r4⟩ := hex
        refine ⟨i0, ?_, r2, r3, r4⟩
        rcases Nat.eq_or_lt_of_le r1 with q | q
        · exfalso
          subst q
          omega
        · exact q) ls (lv_sub hl [1, 2, 3, 0] rfl)
        · refine lv_aload_n S.1 S.2.1 dX0_print_119 rfl (lv_at hl 0 rfl) ?_
          refine xg_D S hK hP dX0_print_120 ?_
          refine lv_iload_n S.1 S.2.1 dX0_print_123 rfl (lv_at hl 3 rfl) ?_
          refine xl_D S hK hP (by omega) dX0_print_124 ?_
          refine qf_top (y := nI (rd i)) rfl ?_
          exact kk i ls h1 h2 h3
end QPR
set_option maxHeartbeats 4000000 in
set_option maxRecDepth 100000 in
theorem met_print (l : Launch) (dC : Nat → ClassId) (dI : Nat → Nat → Nat) (dA : Nat → ClassId) (g : Nat → Nat) (u : qf_QS) (a : qa_S) (x z : Int32) (hg : qf_dj g) (hG : qf_good u a) : Met l yX0_print (ws_ yX0_print cX0_print 7 (some .int)) ({ frames := 5, cells := 0, slots := 0, locals := 115 }) (qf_Pc g dA dC dI u [.int x, .int z]) (va_Qi (fun r u1 => r = qa_print a x z ∧ qf_good u1 a) (qf_Bt g dA dC dI) (qf_A g)) 0 0 (qf_A g) := by
  refine qf_met (by decide) rfl (Nat.le_of_ble_eq_true rfl) ?_
  intro p e s m below meth c ls S hr hlocks hP hK hl
  have hR : qf_RM ({ frames := 5, cells := 0, slots := 0, locals := 115 }) 5 115 := ⟨Nat.le_refl _, Nat.le_refl _⟩
  have hl : lv_has ls 7 [(0, .ref (g 0)), (1, .int x), (2, .int z)] := hl
  have hS : va_S (qf_A g) s.heap s.heap [] := va_S.rf
  refine lv_aload_n S.1 S.2.1 dX0_print_0 rfl (lv_at hl 0 rfl) ?_
  refine lv_iload_n S.1 S.2.1 dX0_print_1 rfl (lv_at hl 1 rfl) ?_
  refine yc_isFilter S hK hP (hR.le (by decide) (by decide)) hl.1 (Nat.le_of_ble_eq_true rfl) dX0_print_2 ?_
  refine qf_ifne (tgt := 10) S.1 S.2.1 dX0_print_5 (by decide) (fun h1 => ?_) (fun h1 => ?_)
  · have h1 := of_decide_eq_true h1
    obtain ⟨f, hf, rfl⟩ := qa_ex h1
    obtain ⟨F, rc, rd⟩ := u
    obtain ⟨b, hb⟩ : ∃ b, a.1 f = b := ⟨_, rfl⟩
    obtain ⟨cf, hcf⟩ : ∃ cf, a.2 f = cf := ⟨_, rfl⟩
    obtain ⟨G, hGe⟩ : ∃ G, F f = G := ⟨_, rfl⟩
    have hI : qf_inv b G cf := by rw [← hb, ← hcf, ← hGe]; exact hG f hf
    have hP : va_P (dC, dI) qf_cl (qf_w g dA (va_up F f G, rc, rd)) s.heap := by rw [← hGe, qf_upself]; exact hP
    have hGs : qf_good (va_up F f G, rc, rd) a := by rw [← hGe]; exact qf_good_same hG
    obtain ⟨hB, hGb, hH, -⟩ := id hI
    have h64 := (qf_bk_64 hB).2
    have eH : qa_H a f = qf_H G := by show qf_sm (a.2 f) 256 = qf_H G; rw [hcf]; exact qf_inv_sum hI
    have es : qa_print a (nI f) z = (if z < 0 ∨ nI (qa_H a f) ≤ z then -3 else nI (qa_kth (a.2 f) z.toNatClampNeg)) := qa_on_f hf _ _
    refine lv_iload_n S.1 S.2.1 dX0_print_10 rfl (lv_at hl 2 rfl) ?_
    refine lv_if_lt (tgt := 24) S.1 S.2.1 dX0_print_11 (by decide) (fun h2 => ?_) (fun h2 => ?_)
    · refine lv_bipush (v := (-3)) S.1 S.2.1 dX0_print_24 (by decide) ?_
      exact W.iret S.1 S.2.1 hr (fun t ht hW => ⟨⟨_, (va_up F f G, rc, rd), rfl, ⟨by rw [es, if_pos (Or.inl h2)], hGs⟩, by unfold qf_Bt; rw [ht]; exact hP⟩, hS.F ht⟩) hS.2.2 dX0_print_26
    · obtain ⟨k, hk, rfl⟩ := nI_of h2
      refine lv_iload_n S.1 S.2.1 dX0_print_14 rfl (lv_at hl 2 rfl) ?_
      refine lv_aload_n S.1 S.2.1 dX0_print_15 rfl (lv_at hl 0 rfl) ?_
      refine xg_H S hK hP dX0_print_16 ?_
      refine lv_iload_n S.1 S.2.1 dX0_print_19 rfl (lv_at hl 1 rfl) ?_
      refine yl_H S hK hP hf dX0_print_20 ?_
      refine qf_icmplt (tgt := 27) S.1 S.2.1 hk (by omega) dX0_print_21 (by decide) (fun h3 => ?_) (fun h3 => ?_)
      · refine lv_aload_n S.1 S.2.1 dX0_print_27 rfl (lv_at hl 0 rfl) ?_
        refine lv_iload_n S.1 S.2.1 dX0_print_28 rfl (lv_at hl 1 rfl) ?_
        refine yc_readAll S hK hP hS hg hf hI (hR.le (by decide) (by decide)) hl.1 (Nat.le_of_ble_eq_true rfl) dX0_print_29 (fun rd1 H locs d1 d2 hP hS => ?_)
        refine lv_iconst (v := nI 0) S.1 S.2.1 dX0_print_32 (by decide) ?_
        refine lv_istore_n (lv' := [(3, .int (nI 0)), (0, .ref (g 0)), (1, .int (nI f)), (2, .int (nI k))]) S.1 S.2.1 dX0_print_33 rfl hl (by decide) rfl (fun ls hl => ?_)
        have hcs : (fun q => qf_ct (fun i => rd1 i == q) 0 (qf_H G)) = cf := funext d1
        have hbel : ∀ v, qf_ct (fun i => decide (rd1 i < v)) 0 (qf_H G) = qf_sm cf v := fun v => by rw [qf_sm_below, hcs]
        obtain ⟨v, v1, v2, v3⟩ := qa_kth_ex (c := cf) (k := k) (by rw [qf_inv_sum hI]; exact h3)
        have vpos : 0 < qf_ct (fun i => rd1 i == v) 0 (qf_H G) := by
          rw [d1 v]
          have : qf_sm cf (v + 1) = qf_sm cf v + cf v := rfl
          omega
        obtain ⟨i0, i1, i2⟩ := qf_ct_ex vpos
        rw [Nat.zero_add] at i2
        have i3 : rd1 i0 = v := beq_iff_eq.mp i2
        refine pr_out S hK hf hR hP (k := k) (by omega) (by omega) d2 (fun i ls q1 q2 q3 => ?_) (qf_H G) 0 (by omega) ⟨i0, Nat.zero_le _, i1, by rw [hbel, i3]; exact v2, by
        rw [hbel, i3, d1 v]
        exact v3⟩ ls (lv_sub hl [1, 2, 3, 0] rfl)
        rw [hbel] at q2 q3
        rw [d1] at q3
        have hkt := qa_kth_eq (c := cf) (k := k) (d2 i q1) q2 q3
        exact W.iret S.1 S.2.1 hr (fun t ht hW => ⟨⟨_, (va_up F f G, qf_H G, rd1), rfl, ⟨by rw [es, if_neg (by rw [eH]; exact fun r => r.elim h2 (fun r => absurd ((nI_leI (by omega) hk).mp r) (by omega))), hcf, nI_clamp hk, hkt], by rw [← hGe]; exact qf_good_same hG⟩, by unfold qf_Bt; rw [ht]; exact hP⟩, hS.F ht⟩) hS.2.2 dX0_print_125
      · refine lv_bipush (v := (-3)) S.1 S.2.1 dX0_print_24 (by decide) ?_
        exact W.iret S.1 S.2.1 hr (fun t ht hW => ⟨⟨_, (va_up F f G, rc, rd), rfl, ⟨by rw [es, if_pos (Or.inr (by rw [eH]; exact (nI_leI (by omega) hk).mpr h3))], hGs⟩, by unfold qf_Bt; rw [ht]; exact hP⟩, hS.F ht⟩) hS.2.2 dX0_print_26
  · have h1 := of_decide_eq_false h1
    refine lv_iconst (v := (-1)) S.1 S.2.1 dX0_print_8 (by decide) ?_
    exact W.iret S.1 S.2.1 hr (fun t ht hW => ⟨⟨_, u, rfl, ⟨(qa_on_n h1 _ _).symm, hG⟩, by unfold qf_Bt; rw [ht]; exact hP⟩, hS.F ht⟩) hS.2.2 dX0_print_9
section QPO
variable {p : Program} {l : Launch} {e : Env} {R : Room} {s : State} {m : MethodId} {args : Array Value} {below : List Frame} {meth : Method} {c : Code} {H H0 : Heap} {locs : List Loc} {cells slots : Nat} {Q : State → Prop} {cc : ByteArray} {pc nL : Nat} {ls : Array Slot} {rest : List Value} {g : Nat → Nat} {dC : Nat → ClassId} {dI : Nat → Nat → Nat} {dA : Nat → ClassId} {F : Nat → qf_FS} {f b : Nat} {G : qf_FS} {rc : Nat} {rd : Nat → Nat} {u : qf_QS}
set_option maxHeartbeats 4000000 in
set_option maxRecDepth 100000 in
theorem po_loop1 (S : CallFix p m c cX0_pour 5 s args lw_all RX0) (hK : va_K (dC, dI) qf_cl (qf_tys dA) s) (hf : f < 2) (hB : qf_bk b) (hR : qf_RM R 6 138) {T y : Nat} (hT : T ≤ 63) (hy6 : y ≤ 6) (hy : T ≤ 2 ^ y - 1) (kk : ∀ ls, lv_has ls 5 [(0, .ref (g 0)), (1, .int (nI f)), (2, .int (nI T)), (3, .int (nI y))] → W p l e R s m args below meth c H locs 0 0 Q (F0 m 55 ls [])) :
    ∀ (n x : Nat), y = x + n → 3 ≤ x → (∀ t, x ≤ t → t < y → 2 ^ t - 1 < T) → ∀ ls, lv_has ls 5 [(0, .ref (g 0)), (1, .int (nI f)), (2, .int (nI T)), (3, .int (nI x))] → W p l e R s m args below meth c H locs 0 0 Q (F0 m 40 ls []) := by
  intro n
  induction n using Nat.strongRecOn with
  | ind n ih =>
    intro x hx h3 hal ls hl
    refine lv_iload_n S.1 S.2.1 dX0_pour_40 rfl (lv_at hl 2 rfl) ?_
    refine lv_iconst (v := nI 1) S.1 S.2.1 dX0_pour_41 (by decide) ?_
    refine lv_iload_n S.1 S.2.1 dX0_pour_42 rfl (lv_at hl 3 rfl) ?_
    refine lv_ishl S.1 S.2.1 dX0_pour_43 ?_
    refine qf_top (qn_shl1 ⟨h3, by omega⟩) ?_
    refine lv_iconst (v := nI 1) S.1 S.2.1 dX0_pour_44 (by decide) ?_
    refine lv_isub S.1 S.2.1 dX0_pour_45 ?_
    have hpx : 1 ≤ 2 ^ x := Nat.one_le_two_pow
    have hpx2 : 2 ^ x ≤ 64 := (qf_bk_64 ⟨h3, by omega⟩).2
    refine qf_top (qn_sub hpx) ?_
    refine qf_icmple (tgt := 55) S.1 S.2.1 (by omega) (by omega) dX0_pour_46 (by decide) (fun h1 => ?_) (fun h1 => ?_)
    · have e1 : x = y := by
        rcases Nat.eq_zero_or_pos n with q | q
        · omega
        · have := hal x (Nat.le_refl _) (by omega)
          omega
      rw [e1] at hl
      exact kk ls hl
    · have hn : n ≠ 0 := fun q => by
        have e1 : x = y := by omega
        rw [e1] at h1; omega
      refine lv_iinc (v := nI (x + 1)) (lv' := [(3, .int (nI (x + 1))), (0, .ref (g 0)), (1, .int (nI f)), (2, .int (nI T))]) S.1 S.2.1 dX0_pour_49 hl (k := 3) rfl (nI_1 _) (by decide) rfl (fun ls hl => ?_)
      refine lv_goto (tgt := 40) S.1 S.2.1 dX0_pour_52 (by decide) ?_
      exact ih (n - 1) (by omega) (x + 1) (by omega) (by omega) (fun t t1 t2 => hal t (by omega) t2) ls (lv_sub hl [1, 2, 3, 0] rfl)
set_option maxHeartbeats 4000000 in
set_option maxRecDepth 100000 in
theorem po_loop2 (S : CallFix p m c cX0_pour 5 s args lw_all RX0) (hK : va_K (dC, dI) qf_cl (qf_tys dA) s) (hf : f < 2) (hB : qf_bk b) (hR : qf_RM R 6 138) (hg : qf_dj g) {hc : Nat} {c1 : Nat → Nat} (hc1 : qf_sm c1 256 + hc < 2 ^ b) (hc2 : hc < 64) (hrd : ∀ i, i < hc → rd i < 256) (kk : ∀ (G : qf_FS) (H : Heap) (locs : List Loc) (ls : Array Slot), qf_inv b G (fun p => c1 p + qf_ct (fun i => rd i == p) 0 hc) → va_P (dC, dI) qf_cl (qf_w g dA (va_up F f G, hc, rd)) H → va_S (qf_A g) H0 H locs → lv_has ls 5 [(0, .ref (g 0)), (1, .int (nI f))] → W p l e R s m args below meth c H locs 0 0 Q (F0 m 108 ls [])) :
    ∀ (n i : Nat) (G : qf_FS) (H : Heap) (locs : List Loc), hc = i + n → qf_inv b G (fun p => c1 p + qf_ct (fun i => rd i == p) 0 i) → va_P (dC, dI) qf_cl (qf_w g dA (va_up F f G, hc, rd)) H → va_S (qf_A g) H0 H locs → ∀ ls, lv_has ls 5 [(0, .ref (g 0)), (1, .int (nI f)), (4, .int (nI i))] → W p l e R s m args below meth c H locs 0 0 Q (F0 m 81 ls []) := by
  intro n
  induction n using Nat.strongRecOn with
  | ind n ih =>
    intro i G H locs hi hI hP hS ls hl
    refine lv_iload S.1 S.2.1 dX0_pour_81 (lv_at hl 2 rfl) ?_
    refine lv_aload_n S.1 S.2.1 dX0_pour_83 rfl (lv_at hl 0 rfl) ?_
    refine xg_C S hK hP dX0_pour_84 ?_
    refine qf_top (y := nI hc) rfl ?_
    refine qf_icmpge (tgt := 108) S.1 S.2.1 (by omega) (by omega) dX0_pour_87 (by decide) (fun h1 => ?_) (fun h1 => ?_)
    · have e1 : i = hc := by omega
      subst e1
      exact kk G H locs ls hI hP hS (lv_sub hl [0, 1] rfl)
    · have eH := qf_inv_sum hI
      rw [qf_sm_add c1 (fun p => qf_ct (fun i => rd i == p) 0 i), qf_sm_rd (fun j hj => hrd j (by omega))] at eH
      refine lv_aload_n S.1 S.2.1 dX0_pour_90 rfl (lv_at hl 0 rfl) ?_
      refine lv_iload_n S.1 S.2.1 dX0_pour_91 rfl (lv_at hl 1 rfl) ?_
      refine lv_aload_n S.1 S.2.1 dX0_pour_92 rfl (lv_at hl 0 rfl) ?_
      refine xg_D S hK hP dX0_pour_93 ?_
      refine lv_iload S.1 S.2.1 dX0_pour_96 (lv_at hl 2 rfl) ?_
      refine xl_D S hK hP (by omega) dX0_pour_98 ?_
      refine qf_top (y := nI (rd i)) rfl ?_
      refine yc_insert S hK hP hS hg hf hI (hrd i h1) (by omega) (hR.le (by decide) (by decide)) hl.1 (Nat.le_of_ble_eq_true rfl) dX0_pour_99 (fun G1 H locs hI1 hP hS => ?_)
      refine lv_iinc (v := nI (i + 1)) (lv' := [(4, .int (nI (i + 1))), (0, .ref (g 0)), (1, .int (nI f))]) S.1 S.2.1 dX0_pour_102 hl (k := 2) rfl (nI_1 _) (by decide) rfl (fun ls hl => ?_)
      refine lv_goto (tgt := 81) S.1 S.2.1 dX0_pour_105 (by decide) ?_
      exact ih (n - 1) (by omega) (i + 1) G1 H locs (by omega) (qf_inv_of hI1 (fun p => by show c1 p + qf_ct (fun i => rd i == p) 0 i + _ = _; rw [qf_ct_next]; omega)) hP hS ls (lv_sub hl [1, 2, 0] rfl)
set_option maxHeartbeats 4000000 in
set_option maxRecDepth 100000 in
theorem po_tail (S : CallFix p m c cX0_pour 5 s args lw_all RX0) (hK : va_K (dC, dI) qf_cl (qf_tys dA) s) (hf : f < 2) (hB : qf_bk b) (hR : qf_RM R 6 138) (hg : qf_dj g) (hP : va_P (dC, dI) qf_cl (qf_w g dA (va_up F f G, rc, rd)) H) (hS : va_S (qf_A g) H0 H locs) {G2 : qf_FS} {b2 : Nat} {c1 c2 : Nat → Nat} (hI : qf_inv b G c1) (hG2 : F (1 - f) = G2) (hI2 : qf_inv b2 G2 c2) (hfit : qf_H G + qf_H G2 < 2 ^ b) (kk : ∀ (G3 : qf_FS) (rc : Nat) (rd : Nat → Nat) (H : Heap) (locs : List Loc) (ls : Array Slot), qf_inv b G3 (fun p => c1 p + c2 p) → va_P (dC, dI) qf_cl (qf_w g dA (va_up F f G3, rc, rd)) H → va_S (qf_A g) H0 H locs → W p l e R s m args below meth c H locs 0 0 Q (F0 m 114 ls [.int (nI (qf_H G + qf_H G2))])) (ls : Array Slot) (hl : lv_has ls 5 [(0, .ref (g 0)), (1, .int (nI f))]) : W p l e R s m args below meth c H locs 0 0 Q (F0 m 71 ls []) := by
  refine lv_aload_n S.1 S.2.1 dX0_pour_71 rfl (lv_at hl 0 rfl) ?_
  refine lv_iconst (v := nI 1) S.1 S.2.1 dX0_pour_72 (by decide) ?_
  refine lv_iload_n S.1 S.2.1 dX0_pour_73 rfl (lv_at hl 1 rfl) ?_
  refine lv_isub S.1 S.2.1 dX0_pour_74 ?_
  refine qf_top (qn_sub (a := 1) (b := f) (by omega)) ?_
  have hP2 : va_P (dC, dI) qf_cl (qf_w g dA (va_up (va_up F f G) (1 - f) G2, rc, rd)) H := by
    have e1 : va_up F f G (1 - f) = G2 := by rw [qf_up_n _ _ (by omega)]; exact hG2
    rw [← e1, qf_upself]
    exact hP
  refine yc_readAll (f := 1 - f) S hK hP2 hS hg (by omega) hI2 (hR.le (by decide) (by decide)) hl.1 (Nat.le_of_ble_eq_true rfl) dX0_pour_75 (fun rd1 H locs d1 d2 hP2 hS => ?_)
  have hP : va_P (dC, dI) qf_cl (qf_w g dA (va_up F f G, qf_H G2, rd1)) H := by
    have e1 : va_up F f G (1 - f) = G2 := by rw [qf_up_n _ _ (by omega)]; exact hG2
    rw [← e1, qf_upself, e1] at hP2
    exact hP2
  refine lv_iconst (v := nI 0) S.1 S.2.1 dX0_pour_78 (by decide) ?_
  refine lv_istore (lv' := [(4, .int (nI 0)), (0, .ref (g 0)), (1, .int (nI f))]) S.1 S.2.1 dX0_pour_79 hl (by decide) rfl (fun ls hl => ?_)
  have h64 := (qf_bk_64 hB).2
  have hs1 := qf_inv_sum hI
  refine po_loop2 S hK hf hB hR hg (c1 := c1) (hc := qf_H G2) (by omega) (by omega) d2 (fun G3 H locs ls hI3 hP hS hl => ?_) (qf_H G2) 0 G H locs (by omega) (qf_inv_of hI (fun p => by show c1 p = c1 p + 0; rfl)) hP hS ls (lv_sub hl [1, 2, 0] rfl)
  have hI4 : qf_inv b G3 (fun p => c1 p + c2 p) := qf_inv_of hI3 (fun p => by rw [d1 p])
  have hs4 := qf_inv_sum hI4
  rw [qf_sm_add c1 c2, hs1, qf_inv_sum hI2] at hs4
  refine lv_aload_n S.1 S.2.1 dX0_pour_108 rfl (lv_at hl 0 rfl) ?_
  refine xg_H S hK hP dX0_pour_109 ?_
  refine lv_iload_n S.1 S.2.1 dX0_pour_112 rfl (lv_at hl 1 rfl) ?_
  refine yl_H S hK hP hf dX0_pour_113 ?_
  rw [← hs4]
  exact kk G3 _ _ H locs ls hI4 hP hS
end QPO
set_option maxHeartbeats 4000000 in
set_option maxRecDepth 100000 in
theorem met_pour (l : Launch) (dC : Nat → ClassId) (dI : Nat → Nat → Nat) (dA : Nat → ClassId) (g : Nat → Nat) (u : qf_QS) (a : qa_S) (x : Int32) (hg : qf_dj g) (hG : qf_good u a) : Met l yX0_pour (ws_ yX0_pour cX0_pour 5 (some .int)) ({ frames := 6, cells := 0, slots := 0, locals := 138 }) (qf_Pc g dA dC dI u [.int x]) (va_Qi (fun r u1 => r = (qa_pour a x).1 ∧ qf_good u1 (qa_pour a x).2) (qf_Bt g dA dC dI) (qf_A g)) 0 0 (qf_A g) := by
  refine qf_met (by decide) rfl (Nat.le_of_ble_eq_true rfl) ?_
  intro p e s m below meth c ls S hr hlocks hP hK hl
  have hR : qf_RM ({ frames := 6, cells := 0, slots := 0, locals := 138 }) 6 138 := ⟨Nat.le_refl _, Nat.le_refl _⟩
  have hl : lv_has ls 5 [(0, .ref (g 0)), (1, .int x)] := hl
  have hS : va_S (qf_A g) s.heap s.heap [] := va_S.rf
  refine lv_aload_n S.1 S.2.1 dX0_pour_0 rfl (lv_at hl 0 rfl) ?_
  refine lv_iload_n S.1 S.2.1 dX0_pour_1 rfl (lv_at hl 1 rfl) ?_
  refine yc_isFilter S hK hP (hR.le (by decide) (by decide)) hl.1 (Nat.le_of_ble_eq_true rfl) dX0_pour_2 ?_
  refine qf_ifne (tgt := 10) S.1 S.2.1 dX0_pour_5 (by decide) (fun h1 => ?_) (fun h1 => ?_)
  · have h1 := of_decide_eq_true h1
    obtain ⟨f, hf, rfl⟩ := qa_ex h1
    obtain ⟨F, rc, rd⟩ := u
    obtain ⟨b, hb⟩ : ∃ b, a.1 f = b := ⟨_, rfl⟩
    obtain ⟨cf, hcf⟩ : ∃ cf, a.2 f = cf := ⟨_, rfl⟩
    obtain ⟨G, hGe⟩ : ∃ G, F f = G := ⟨_, rfl⟩
    have hI : qf_inv b G cf := by rw [← hb, ← hcf, ← hGe]; exact hG f hf
    have hP : va_P (dC, dI) qf_cl (qf_w g dA (va_up F f G, rc, rd)) s.heap := by rw [← hGe, qf_upself]; exact hP
    have hGs : qf_good (va_up F f G, rc, rd) a := by rw [← hGe]; exact qf_good_same hG
    obtain ⟨hB, hGb, hH, -⟩ := id hI
    have h64 := (qf_bk_64 hB).2
    have eH : qa_H a f = qf_H G := by show qf_sm (a.2 f) 256 = qf_H G; rw [hcf]; exact qf_inv_sum hI
    have es : qa_pour a (nI f) = qa_pourF a f := qa_on_f hf _ _
    have h2f : 1 - f < 2 := by omega
    obtain ⟨G2, hG2⟩ : ∃ G2, F (1 - f) = G2 := ⟨_, rfl⟩
    have hI2 : qf_inv (a.1 (1 - f)) G2 (a.2 (1 - f)) := by rw [← hG2]; exact hG (1 - f) h2f
    have eH2 : qa_H a (1 - f) = qf_H G2 := qf_inv_sum hI2
    have lt2 := qf_inv_lt hI2
    have eT : qf_H (va_up F f G 0) + qf_H (va_up F f G 1) = qa_H a 0 + qa_H a 1 := by
      have e0 := qf_good_H hGs (f := 0) (by decide)
      have e1 := qf_good_H hGs (f := 1) (by decide)
      rw [e0, e1]
    have eT2 : qa_H a 0 + qa_H a 1 = qf_H G + qf_H G2 := by
      have : f = 0 ∨ f = 1 := by omega
      rcases this with e | e
      · subst e; rw [eH]; rw [show qa_H a 1 = qf_H G2 from eH2]
      · subst e; rw [eH]; rw [show qa_H a 0 = qf_H G2 from eH2]; omega
    refine lv_aload_n S.1 S.2.1 dX0_pour_10 rfl (lv_at hl 0 rfl) ?_
    refine xg_H S hK hP dX0_pour_11 ?_
    refine lv_iconst (v := nI 0) S.1 S.2.1 dX0_pour_14 (by decide) ?_
    refine xl_H (f := 0) S hK hP (by decide) dX0_pour_15 ?_
    refine lv_aload_n S.1 S.2.1 dX0_pour_16 rfl (lv_at hl 0 rfl) ?_
    refine xg_H S hK hP dX0_pour_17 ?_
    refine lv_iconst (v := nI 1) S.1 S.2.1 dX0_pour_20 (by decide) ?_
    refine xl_H (f := 1) S hK hP (by decide) dX0_pour_21 ?_
    refine lv_iadd S.1 S.2.1 dX0_pour_22 ?_
    refine qf_top (nI_add _ _) ?_
    refine qf_top (congrArg nI (eT.trans eT2)) ?_
    refine lv_istore_n (lv' := [(2, .int (nI (qf_H G + qf_H G2))), (0, .ref (g 0)), (1, .int (nI f))]) S.1 S.2.1 dX0_pour_23 rfl hl (by decide) rfl (fun ls hl => ?_)
    refine lv_iload_n S.1 S.2.1 dX0_pour_24 rfl (lv_at hl 0 rfl) ?_
    refine lv_bipush (v := nI 63) S.1 S.2.1 dX0_pour_25 (by decide) ?_
    refine qf_icmple (tgt := 33) S.1 S.2.1 (by omega) (by decide) dX0_pour_27 (by decide) (fun h3 => ?_) (fun h3 => ?_)
    · obtain ⟨s1, s2, s3, s4⟩ := qa_gb_spec (T := qf_H G + qf_H G2) hB h3
      have hb3 := hB.1
      have hpw : 1 ≤ 2 ^ qa_gb (qf_H G + qf_H G2) b := Nat.one_le_two_pow
      refine lv_aload_n S.1 S.2.1 dX0_pour_33 rfl (lv_at hl 1 rfl) ?_
      refine xg_B S hK hP dX0_pour_34 ?_
      refine lv_iload_n S.1 S.2.1 dX0_pour_37 rfl (lv_at hl 2 rfl) ?_
      refine yl_B S hK hP hf dX0_pour_38 ?_
      refine qf_top (congrArg nI hGb) ?_
      refine lv_istore_n (lv' := [(3, .int (nI b)), (2, .int (nI (qf_H G + qf_H G2))), (0, .ref (g 0)), (1, .int (nI f))]) S.1 S.2.1 dX0_pour_39 rfl hl (by decide) rfl (fun ls hl => ?_)
      refine po_loop1 S hK hf hB hR h3 (y := qa_gb (qf_H G + qf_H G2) b) s2 s3 (fun ls hl => ?_) (qa_gb (qf_H G + qf_H G2) b - b) b (by omega) hb3 s4 ls (lv_sub hl [2, 3, 1, 0] rfl)
      refine lv_iload_n S.1 S.2.1 dX0_pour_55 rfl (lv_at hl 3 rfl) ?_
      refine lv_aload_n S.1 S.2.1 dX0_pour_56 rfl (lv_at hl 0 rfl) ?_
      refine xg_B S hK hP dX0_pour_57 ?_
      refine lv_iload_n S.1 S.2.1 dX0_pour_60 rfl (lv_at hl 1 rfl) ?_
      refine yl_B S hK hP hf dX0_pour_61 ?_
      refine qf_top (congrArg nI hGb) ?_
      refine qf_icmple (tgt := 71) S.1 S.2.1 (by omega) (by omega) dX0_pour_62 (by decide) (fun h4 => ?_) (fun h4 => ?_)
      · have e5 : qa_gb (qf_H G + qf_H G2) b = b := by omega
        refine po_tail S hK hf hB hR hg hP hS hI hG2 hI2 (by rw [e5] at hpw s3; omega) (fun G3 rc3 rd3 H locs ls hI3 hP hS => ?_) ls (lv_sub hl [0, 1] rfl)
        rw [← e5] at hI3
        exact W.iret S.1 S.2.1 hr (fun t ht hW => ⟨⟨_, (va_up F f G3, rc3, rd3), rfl, by rw [es, qa_pourF, if_neg (by rw [eT2]; omega)]; exact ⟨by show _ = nI (qa_H a 0 + qa_H a 1); rw [eT2], by show qf_good _ (qa_set a f (qa_gb (qa_H a 0 + qa_H a 1) (a.1 f)) (fun p => a.2 f p + a.2 (1 - f) p)); rw [eT2, hb, hcf]; exact qf_good_set hG hI3⟩, by unfold qf_Bt; rw [ht]; exact hP⟩, hS.F ht⟩) hS.2.2 dX0_pour_114
      · refine lv_aload_n S.1 S.2.1 dX0_pour_65 rfl (lv_at hl 0 rfl) ?_
        refine lv_iload_n S.1 S.2.1 dX0_pour_66 rfl (lv_at hl 1 rfl) ?_
        refine lv_iload_n S.1 S.2.1 dX0_pour_67 rfl (lv_at hl 3 rfl) ?_
        refine yc_resize S hK hP hS hg hf hI (b2 := qa_gb (qf_H G + qf_H G2) b) ⟨by omega, s2⟩ (by omega) (hR.le (by decide) (by decide)) hl.1 (Nat.le_of_ble_eq_true rfl) dX0_pour_68 (fun G1 rc1 rd1 H locs hI1 hP hS => ?_)
        have e6 : qf_H G1 = qf_H G := by
          have q1 := qf_inv_sum hI1
          rw [qf_inv_sum hI] at q1
          exact q1.symm
        refine po_tail S hK hf hI1.1 hR hg hP hS hI1 hG2 hI2 (by omega) (fun G3 rc3 rd3 H locs ls hI3 hP hS => ?_) ls (lv_sub hl [0, 1] rfl)
        exact W.iret S.1 S.2.1 hr (fun t ht hW => ⟨⟨_, (va_up F f G3, rc3, rd3), rfl, by rw [es, qa_pourF, if_neg (by rw [eT2]; omega)]; exact ⟨by show _ = nI (qa_H a 0 + qa_H a 1); rw [eT2, e6], by show qf_good _ (qa_set a f (qa_gb (qa_H a 0 + qa_H a 1) (a.1 f)) (fun p => a.2 f p + a.2 (1 - f) p)); rw [eT2, hb, hcf]; exact qf_good_set hG hI3⟩, by unfold qf_Bt; rw [ht]; exact hP⟩, hS.F ht⟩) hS.2.2 dX0_pour_114
    · refine lv_bipush (v := (-2)) S.1 S.2.1 dX0_pour_30 (by decide) ?_
      exact W.iret S.1 S.2.1 hr (fun t ht hW => ⟨⟨_, (va_up F f G, rc, rd), rfl, by rw [es, qa_pourF, if_pos (by rw [eT2]; exact h3)]; exact ⟨rfl, hGs⟩, by unfold qf_Bt; rw [ht]; exact hP⟩, hS.F ht⟩) hS.2.2 dX0_pour_32
  · have h1 := of_decide_eq_false h1
    refine lv_iconst (v := (-1)) S.1 S.2.1 dX0_pour_8 (by decide) ?_
    exact W.iret S.1 S.2.1 hr (fun t ht hW => ⟨⟨_, u, rfl, by rw [show qa_pour a x = (-1, a) from qa_on_n h1 _ _]; exact ⟨rfl, hG⟩, by unfold qf_Bt; rw [ht]; exact hP⟩, hS.F ht⟩) hS.2.2 dX0_pour_9
end
section
/-! the constructor of QuotientFilter -/
abbrev qf_fs0 : List Value := [.null, .null, .null, .null, .null, .null, .int 0, .null]
def qf_F0 (j : Nat) : qf_FS := (if j = 1 then 3 else if j = 0 then 3 else 0, 0, fun _ => 0, fun _ => false, fun _ => false, fun _ => false)
def qf_u0 : qf_QS := (qf_F0, 0, fun _ => 0)
def qa_0 : qa_S := (fun j => if j = 1 then 3 else if j = 0 then 3 else 32, fun _ _ => 0)
theorem qf_good0 : qf_good qf_u0 qa_0 := by
  intro f hf
  have : f = 0 ∨ f = 1 := by omega
  rcases this with e | e <;> subst e <;> exact qf_inv_empty ⟨by decide, by decide⟩ rfl rfl (fun _ _ => ⟨rfl, rfl, rfl⟩)
def qf_Bi (dC : Nat → ClassId) (dI : Nat → Nat → Nat) (A : Nat → Prop) (v : (Nat → Nat) × (Nat → ClassId)) (t : State) : Prop := va_P (dC, dI) qf_cl (qf_w v.1 v.2 qf_u0) t.heap ∧ va_K (dC, dI) qf_cl (qf_tys v.2) t ∧ va_D A (qf_w v.1 v.2 qf_u0)
theorem qf_dj_of {g : Nat → Nat} {dA : Nat → ClassId} {u : qf_QS} {A : Nat → Prop} (h : va_D A (qf_w g dA u)) : qf_dj g := by
  intro i j hi hj e
  have at' : ∀ k, k < 8 → ∃ q, (qf_w g dA u)[k]? = some q ∧ q.1 = g k := by
    intro k hk
    match k, hk with
    | 0, _ => exact ⟨_, rfl, rfl⟩
    | 1, _ => exact ⟨_, rfl, rfl⟩
    | 2, _ => exact ⟨_, rfl, rfl⟩
    | 3, _ => exact ⟨_, rfl, rfl⟩
    | 4, _ => exact ⟨_, rfl, rfl⟩
    | 5, _ => exact ⟨_, rfl, rfl⟩
    | 6, _ => exact ⟨_, rfl, rfl⟩
    | 7, _ => exact ⟨_, rfl, rfl⟩
    | k + 8, hk => omega
  obtain ⟨p, p1, p2⟩ := at' i hi
  obtain ⟨q, q1, q2⟩ := at' j hj
  exact h.1 i j p q p1 q1 (by rw [p2, q2, e])
theorem qf_r_get {g : Nat → Nat} {dA : Nat → ClassId} {b h l n o p : Nat → Int32} {rc : Int32} {rd : Nat → Int32} {k : Nat} (hk : k < 8) : (qf_r g dA b h l n o p rc rd)[k]? = some (((qf_r g dA b h l n o p rc rd)[k]?).getD (0, .inr (0, []))) := by
  match k, hk with
  | 0, _ => rfl
  | 1, _ => rfl
  | 2, _ => rfl
  | 3, _ => rfl
  | 4, _ => rfl
  | 5, _ => rfl
  | 6, _ => rfl
  | 7, _ => rfl
  | k + 8, hk => omega
theorem qf_r_fst {g : Nat → Nat} {dA : Nat → ClassId} {b h l n o p : Nat → Int32} {rc : Int32} {rd : Nat → Int32} {k : Nat} (hk : k < 8) : (((qf_r g dA b h l n o p rc rd)[k]?).getD (0, .inr (0, []))).1 = g k := by
  match k, hk with
  | 0, _ => rfl
  | 1, _ => rfl
  | 2, _ => rfl
  | 3, _ => rfl
  | 4, _ => rfl
  | 5, _ => rfl
  | 6, _ => rfl
  | 7, _ => rfl
  | k + 8, hk => omega
set_option maxHeartbeats 4000000 in
set_option maxRecDepth 100000 in
/-- QuotientFilter(): seven new arrays; nothing is held -/
theorem met_init (l : Launch) (dC : Nat → ClassId) (dI : Nat → Nat → Nat) (h0 sz : Nat) : Met l yX0_init (ws_ yX0_init cX0_init 1 none) ({ frames := 1, cells := 7, slots := 580, locals := 12 }) (va_Pc [.ref h0] (fun U => U.heap.size = sz ∧ va_P (dC, dI) qf_cl [(h0, .inr (0, qf_fs0))] U.heap ∧ va_K (dC, dI) qf_cl [] U ∧ va_D (fun _ => True) [(h0, .inr (0, qf_fs0))])) (va_Qv (fun v : (Nat → Nat) × (Nat → ClassId) => v.1 0 = h0) (qf_Bi dC dI (va_A [(h0, .inr (0, qf_fs0))] sz)) (va_A [(h0, .inr (0, qf_fs0))] sz)) 7 580 (va_A [(h0, .inr (0, qf_fs0))] sz) := by
  refine Met.ofW (cc := cX0_init) (maxL := 1) (ret := none) (by decide) rfl ?_
  intro p e s m args below meth c s₁ B hml hv
  obtain ⟨rfl, hsz, hP, hK, hD0⟩ := hv
  have hx := B.exec
  have hb := B.bytes
  have hr := B.returns
  have hts := atoms_spec (ws := ws_ yX0_init cX0_init 1 none) B.pre
  have hts : ∀ w ∈ lw_all, w.before _ s = true := fun w h => hts w (List.mem_cons_of_mem _ h)
  have hown : s.vm.findClass RX0 = some m.cls := findClass_of_methodNamed B.named
  have hlocks := B.notSynchronized
  have hin : meth.name = "<init>" := (name_of_methodNamed B.named B.method).1
  subst hsz
  have hD := hD0.self (sz := s.heap.size)
  generalize hAe : va_A [(h0, .inr (0, qf_fs0))] s.heap.size = A at hD ⊢
  have hA : ∀ q : Nat, s.heap.size ≤ q → A q := fun q h => by rw [← hAe]; exact Or.inr h
  have hS : va_S A s.heap s.heap [] := va_S.rf
  have hl := lv_entry ([.ref h0]) (n := 1) (Nat.le_of_ble_eq_true rfl)
  rw [lg_entry_eq]
  generalize (lg_sl ([.ref h0]) ++ List.replicate (1 - (lg_sl ([.ref h0])).length) Slot.unset).toArray = ls at hl ⊢
  have hl : lv_has ls 1 [(0, .ref h0)] := hl
  refine lv_aload_n hx hb dX0_init_0 rfl (lv_at hl 0 rfl) ?_
  refine W.objInit hx hb hown (hts _ q28) (hts _ q29) (hts _ q30) rfl (by rw [hml]; exact hl.1) rfl dX0_init_1 (Nat.le_of_ble_eq_true rfl) (Nat.le_of_ble_eq_true rfl) ?_
  refine W.eq (g2 := F0 m 4 ls []) rfl ?_
  refine lv_aload_n hx hb dX0_init_4 rfl (lv_at hl 0 rfl) ?_
  refine lv_iconst (v := 2) hx hb dX0_init_5 (by decide) ?_
  refine va_newa (atype := .byte) (ty := .byte) (N' := 2) (a0 := (2, .inl (fun _ => 0))) hx hb (hts _ q56) rfl hK hP hD hS hA (fun _ => rfl) (by decide) (by decide) (by decide) (Nat.le_of_ble_eq_true rfl) (Nat.le_of_ble_eq_true rfl) dX0_init_6 (fun q1 c1 H hK hP hD hS => ?_)
  have hK : va_K (dC, dI) qf_cl [(c1, .byte)] s := hK
  have hP : va_P (dC, dI) qf_cl [(h0, .inr (0, [.null, .null, .null, .null, .null, .null, .int 0, .null])), (q1, .inl (c1, 2, .inl (fun _ => 0)))] H := hP
  have hD : va_D A [(h0, .inr (0, [.null, .null, .null, .null, .null, .null, .int 0, .null])), (q1, .inl (c1, 2, .inl (fun _ => 0)))] := hD
  refine W.widen (k := 1) (n := 2) (Nat.le_of_ble_eq_true rfl) (Nat.le_of_ble_eq_true rfl) ?_
  refine va_putF (D := (dC, dI)) (ci := 0) (v := .ref q1) (ty := .array .byte) (C := RX0) (T := TX0) (N := 8) hx hb hts in_X0 tyX0 tyX0_ok nmX0 hown hK hP hD hS 0 rfl rfl 0 (by decide) (hts _ q31) (fun _ h9 => h9) rfl hin rfl (by decide +kernel) rfl rfl (Nat.le_of_ble_eq_true rfl) dX0_init_8 (fun H locs hP hD hS => ?_)
  have hP : va_P (dC, dI) qf_cl [(h0, .inr (0, [.ref q1, .null, .null, .null, .null, .null, .int 0, .null])), (q1, .inl (c1, 2, .inl (fun _ => 0)))] H := hP
  have hD : va_D A [(h0, .inr (0, [.ref q1, .null, .null, .null, .null, .null, .int 0, .null])), (q1, .inl (c1, 2, .inl (fun _ => 0)))] := hD
  refine lv_aload_n hx hb dX0_init_11 rfl (lv_at hl 0 rfl) ?_
  refine lv_iconst (v := 2) hx hb dX0_init_12 (by decide) ?_
  refine va_newa (atype := .byte) (ty := .byte) (N' := 2) (a0 := (2, .inl (fun _ => 0))) hx hb (hts _ q56) rfl hK hP hD hS hA (fun _ => rfl) (by decide) (by decide) (by decide) (Nat.le_of_ble_eq_true rfl) (Nat.le_of_ble_eq_true rfl) dX0_init_13 (fun q2 c2 H hK hP hD hS => ?_)
  have hK : va_K (dC, dI) qf_cl [(c1, .byte), (c2, .byte)] s := hK
  have hP : va_P (dC, dI) qf_cl [(h0, .inr (0, [.ref q1, .null, .null, .null, .null, .null, .int 0, .null])), (q1, .inl (c1, 2, .inl (fun _ => 0))), (q2, .inl (c2, 2, .inl (fun _ => 0)))] H := hP
  have hD : va_D A [(h0, .inr (0, [.ref q1, .null, .null, .null, .null, .null, .int 0, .null])), (q1, .inl (c1, 2, .inl (fun _ => 0))), (q2, .inl (c2, 2, .inl (fun _ => 0)))] := hD
  refine W.widen (k := 2) (n := 4) (Nat.le_of_ble_eq_true rfl) (Nat.le_of_ble_eq_true rfl) ?_
  refine va_putF (D := (dC, dI)) (ci := 0) (v := .ref q2) (ty := .array .byte) (C := RX0) (T := TX0) (N := 8) hx hb hts in_X0 tyX0 tyX0_ok nmX0 hown hK hP hD hS 0 rfl rfl 1 (by decide) (hts _ q32) (fun _ h9 => h9) rfl hin rfl (by decide +kernel) rfl rfl (Nat.le_of_ble_eq_true rfl) dX0_init_15 (fun H locs hP hD hS => ?_)
  have hP : va_P (dC, dI) qf_cl [(h0, .inr (0, [.ref q1, .ref q2, .null, .null, .null, .null, .int 0, .null])), (q1, .inl (c1, 2, .inl (fun _ => 0))), (q2, .inl (c2, 2, .inl (fun _ => 0)))] H := hP
  have hD : va_D A [(h0, .inr (0, [.ref q1, .ref q2, .null, .null, .null, .null, .int 0, .null])), (q1, .inl (c1, 2, .inl (fun _ => 0))), (q2, .inl (c2, 2, .inl (fun _ => 0)))] := hD
  refine lv_aload_n hx hb dX0_init_18 rfl (lv_at hl 0 rfl) ?_
  refine lv_sipush (v := 128) hx hb dX0_init_19 (by decide) ?_
  refine va_newa (atype := .byte) (ty := .byte) (N' := 128) (a0 := (128, .inl (fun _ => 0))) hx hb (hts _ q56) rfl hK hP hD hS hA (fun _ => rfl) (by decide) (by decide) (by decide) (Nat.le_of_ble_eq_true rfl) (Nat.le_of_ble_eq_true rfl) dX0_init_22 (fun q3 c3 H hK hP hD hS => ?_)
  have hK : va_K (dC, dI) qf_cl [(c1, .byte), (c2, .byte), (c3, .byte)] s := hK
  have hP : va_P (dC, dI) qf_cl [(h0, .inr (0, [.ref q1, .ref q2, .null, .null, .null, .null, .int 0, .null])), (q1, .inl (c1, 2, .inl (fun _ => 0))), (q2, .inl (c2, 2, .inl (fun _ => 0))), (q3, .inl (c3, 128, .inl (fun _ => 0)))] H := hP
  have hD : va_D A [(h0, .inr (0, [.ref q1, .ref q2, .null, .null, .null, .null, .int 0, .null])), (q1, .inl (c1, 2, .inl (fun _ => 0))), (q2, .inl (c2, 2, .inl (fun _ => 0))), (q3, .inl (c3, 128, .inl (fun _ => 0)))] := hD
  refine W.widen (k := 3) (n := 132) (Nat.le_of_ble_eq_true rfl) (Nat.le_of_ble_eq_true rfl) ?_
  refine va_putF (D := (dC, dI)) (ci := 0) (v := .ref q3) (ty := .array .byte) (C := RX0) (T := TX0) (N := 8) hx hb hts in_X0 tyX0 tyX0_ok nmX0 hown hK hP hD hS 0 rfl rfl 2 (by decide) (hts _ q33) (fun _ h9 => h9) rfl hin rfl (by decide +kernel) rfl rfl (Nat.le_of_ble_eq_true rfl) dX0_init_24 (fun H locs hP hD hS => ?_)
  have hP : va_P (dC, dI) qf_cl [(h0, .inr (0, [.ref q1, .ref q2, .ref q3, .null, .null, .null, .int 0, .null])), (q1, .inl (c1, 2, .inl (fun _ => 0))), (q2, .inl (c2, 2, .inl (fun _ => 0))), (q3, .inl (c3, 128, .inl (fun _ => 0)))] H := hP
  have hD : va_D A [(h0, .inr (0, [.ref q1, .ref q2, .ref q3, .null, .null, .null, .int 0, .null])), (q1, .inl (c1, 2, .inl (fun _ => 0))), (q2, .inl (c2, 2, .inl (fun _ => 0))), (q3, .inl (c3, 128, .inl (fun _ => 0)))] := hD
  refine lv_aload_n hx hb dX0_init_27 rfl (lv_at hl 0 rfl) ?_
  refine lv_sipush (v := 128) hx hb dX0_init_28 (by decide) ?_
  refine va_newa (atype := .boolean) (ty := .boolean) (N' := 128) (a0 := (128, .inl (fun _ => 0))) hx hb (hts _ q57) rfl hK hP hD hS hA (fun _ => rfl) (by decide) (by decide) (by decide) (Nat.le_of_ble_eq_true rfl) (Nat.le_of_ble_eq_true rfl) dX0_init_31 (fun q4 c4 H hK hP hD hS => ?_)
  have hK : va_K (dC, dI) qf_cl [(c1, .byte), (c2, .byte), (c3, .byte), (c4, .boolean)] s := hK
  have hP : va_P (dC, dI) qf_cl [(h0, .inr (0, [.ref q1, .ref q2, .ref q3, .null, .null, .null, .int 0, .null])), (q1, .inl (c1, 2, .inl (fun _ => 0))), (q2, .inl (c2, 2, .inl (fun _ => 0))), (q3, .inl (c3, 128, .inl (fun _ => 0))), (q4, .inl (c4, 128, .inl (fun _ => 0)))] H := hP
  have hD : va_D A [(h0, .inr (0, [.ref q1, .ref q2, .ref q3, .null, .null, .null, .int 0, .null])), (q1, .inl (c1, 2, .inl (fun _ => 0))), (q2, .inl (c2, 2, .inl (fun _ => 0))), (q3, .inl (c3, 128, .inl (fun _ => 0))), (q4, .inl (c4, 128, .inl (fun _ => 0)))] := hD
  refine W.widen (k := 4) (n := 260) (Nat.le_of_ble_eq_true rfl) (Nat.le_of_ble_eq_true rfl) ?_
  refine va_putF (D := (dC, dI)) (ci := 0) (v := .ref q4) (ty := .array .boolean) (C := RX0) (T := TX0) (N := 8) hx hb hts in_X0 tyX0 tyX0_ok nmX0 hown hK hP hD hS 0 rfl rfl 3 (by decide) (hts _ q34) (fun _ h9 => h9) rfl hin rfl (by decide +kernel) rfl rfl (Nat.le_of_ble_eq_true rfl) dX0_init_33 (fun H locs hP hD hS => ?_)
  have hP : va_P (dC, dI) qf_cl [(h0, .inr (0, [.ref q1, .ref q2, .ref q3, .ref q4, .null, .null, .int 0, .null])), (q1, .inl (c1, 2, .inl (fun _ => 0))), (q2, .inl (c2, 2, .inl (fun _ => 0))), (q3, .inl (c3, 128, .inl (fun _ => 0))), (q4, .inl (c4, 128, .inl (fun _ => 0)))] H := hP
  have hD : va_D A [(h0, .inr (0, [.ref q1, .ref q2, .ref q3, .ref q4, .null, .null, .int 0, .null])), (q1, .inl (c1, 2, .inl (fun _ => 0))), (q2, .inl (c2, 2, .inl (fun _ => 0))), (q3, .inl (c3, 128, .inl (fun _ => 0))), (q4, .inl (c4, 128, .inl (fun _ => 0)))] := hD
  refine lv_aload_n hx hb dX0_init_36 rfl (lv_at hl 0 rfl) ?_
  refine lv_sipush (v := 128) hx hb dX0_init_37 (by decide) ?_
  refine va_newa (atype := .boolean) (ty := .boolean) (N' := 128) (a0 := (128, .inl (fun _ => 0))) hx hb (hts _ q57) rfl hK hP hD hS hA (fun _ => rfl) (by decide) (by decide) (by decide) (Nat.le_of_ble_eq_true rfl) (Nat.le_of_ble_eq_true rfl) dX0_init_40 (fun q5 c5 H hK hP hD hS => ?_)
  have hK : va_K (dC, dI) qf_cl [(c1, .byte), (c2, .byte), (c3, .byte), (c4, .boolean), (c5, .boolean)] s := hK
  have hP : va_P (dC, dI) qf_cl [(h0, .inr (0, [.ref q1, .ref q2, .ref q3, .ref q4, .null, .null, .int 0, .null])), (q1, .inl (c1, 2, .inl (fun _ => 0))), (q2, .inl (c2, 2, .inl (fun _ => 0))), (q3, .inl (c3, 128, .inl (fun _ => 0))), (q4, .inl (c4, 128, .inl (fun _ => 0))), (q5, .inl (c5, 128, .inl (fun _ => 0)))] H := hP
  have hD : va_D A [(h0, .inr (0, [.ref q1, .ref q2, .ref q3, .ref q4, .null, .null, .int 0, .null])), (q1, .inl (c1, 2, .inl (fun _ => 0))), (q2, .inl (c2, 2, .inl (fun _ => 0))), (q3, .inl (c3, 128, .inl (fun _ => 0))), (q4, .inl (c4, 128, .inl (fun _ => 0))), (q5, .inl (c5, 128, .inl (fun _ => 0)))] := hD
  refine W.widen (k := 5) (n := 388) (Nat.le_of_ble_eq_true rfl) (Nat.le_of_ble_eq_true rfl) ?_
  refine va_putF (D := (dC, dI)) (ci := 0) (v := .ref q5) (ty := .array .boolean) (C := RX0) (T := TX0) (N := 8) hx hb hts in_X0 tyX0 tyX0_ok nmX0 hown hK hP hD hS 0 rfl rfl 4 (by decide) (hts _ q35) (fun _ h9 => h9) rfl hin rfl (by decide +kernel) rfl rfl (Nat.le_of_ble_eq_true rfl) dX0_init_42 (fun H locs hP hD hS => ?_)
  have hP : va_P (dC, dI) qf_cl [(h0, .inr (0, [.ref q1, .ref q2, .ref q3, .ref q4, .ref q5, .null, .int 0, .null])), (q1, .inl (c1, 2, .inl (fun _ => 0))), (q2, .inl (c2, 2, .inl (fun _ => 0))), (q3, .inl (c3, 128, .inl (fun _ => 0))), (q4, .inl (c4, 128, .inl (fun _ => 0))), (q5, .inl (c5, 128, .inl (fun _ => 0)))] H := hP
  have hD : va_D A [(h0, .inr (0, [.ref q1, .ref q2, .ref q3, .ref q4, .ref q5, .null, .int 0, .null])), (q1, .inl (c1, 2, .inl (fun _ => 0))), (q2, .inl (c2, 2, .inl (fun _ => 0))), (q3, .inl (c3, 128, .inl (fun _ => 0))), (q4, .inl (c4, 128, .inl (fun _ => 0))), (q5, .inl (c5, 128, .inl (fun _ => 0)))] := hD
  refine lv_aload_n hx hb dX0_init_45 rfl (lv_at hl 0 rfl) ?_
  refine lv_sipush (v := 128) hx hb dX0_init_46 (by decide) ?_
  refine va_newa (atype := .boolean) (ty := .boolean) (N' := 128) (a0 := (128, .inl (fun _ => 0))) hx hb (hts _ q57) rfl hK hP hD hS hA (fun _ => rfl) (by decide) (by decide) (by decide) (Nat.le_of_ble_eq_true rfl) (Nat.le_of_ble_eq_true rfl) dX0_init_49 (fun q6 c6 H hK hP hD hS => ?_)
  have hK : va_K (dC, dI) qf_cl [(c1, .byte), (c2, .byte), (c3, .byte), (c4, .boolean), (c5, .boolean), (c6, .boolean)] s := hK
  have hP : va_P (dC, dI) qf_cl [(h0, .inr (0, [.ref q1, .ref q2, .ref q3, .ref q4, .ref q5, .null, .int 0, .null])), (q1, .inl (c1, 2, .inl (fun _ => 0))), (q2, .inl (c2, 2, .inl (fun _ => 0))), (q3, .inl (c3, 128, .inl (fun _ => 0))), (q4, .inl (c4, 128, .inl (fun _ => 0))), (q5, .inl (c5, 128, .inl (fun _ => 0))), (q6, .inl (c6, 128, .inl (fun _ => 0)))] H := hP
  have hD : va_D A [(h0, .inr (0, [.ref q1, .ref q2, .ref q3, .ref q4, .ref q5, .null, .int 0, .null])), (q1, .inl (c1, 2, .inl (fun _ => 0))), (q2, .inl (c2, 2, .inl (fun _ => 0))), (q3, .inl (c3, 128, .inl (fun _ => 0))), (q4, .inl (c4, 128, .inl (fun _ => 0))), (q5, .inl (c5, 128, .inl (fun _ => 0))), (q6, .inl (c6, 128, .inl (fun _ => 0)))] := hD
  refine W.widen (k := 6) (n := 516) (Nat.le_of_ble_eq_true rfl) (Nat.le_of_ble_eq_true rfl) ?_
  refine va_putF (D := (dC, dI)) (ci := 0) (v := .ref q6) (ty := .array .boolean) (C := RX0) (T := TX0) (N := 8) hx hb hts in_X0 tyX0 tyX0_ok nmX0 hown hK hP hD hS 0 rfl rfl 5 (by decide) (hts _ q36) (fun _ h9 => h9) rfl hin rfl (by decide +kernel) rfl rfl (Nat.le_of_ble_eq_true rfl) dX0_init_51 (fun H locs hP hD hS => ?_)
  have hP : va_P (dC, dI) qf_cl [(h0, .inr (0, [.ref q1, .ref q2, .ref q3, .ref q4, .ref q5, .ref q6, .int 0, .null])), (q1, .inl (c1, 2, .inl (fun _ => 0))), (q2, .inl (c2, 2, .inl (fun _ => 0))), (q3, .inl (c3, 128, .inl (fun _ => 0))), (q4, .inl (c4, 128, .inl (fun _ => 0))), (q5, .inl (c5, 128, .inl (fun _ => 0))), (q6, .inl (c6, 128, .inl (fun _ => 0)))] H := hP
  have hD : va_D A [(h0, .inr (0, [.ref q1, .ref q2, .ref q3, .ref q4, .ref q5, .ref q6, .int 0, .null])), (q1, .inl (c1, 2, .inl (fun _ => 0))), (q2, .inl (c2, 2, .inl (fun _ => 0))), (q3, .inl (c3, 128, .inl (fun _ => 0))), (q4, .inl (c4, 128, .inl (fun _ => 0))), (q5, .inl (c5, 128, .inl (fun _ => 0))), (q6, .inl (c6, 128, .inl (fun _ => 0)))] := hD
  refine lv_aload_n hx hb dX0_init_54 rfl (lv_at hl 0 rfl) ?_
  refine lv_bipush (v := 64) hx hb dX0_init_55 (by decide) ?_
  refine va_newa (atype := .short) (ty := .short) (N' := 64) (a0 := (64, .inl (fun _ => 0))) hx hb (hts _ q58) rfl hK hP hD hS hA (fun _ => rfl) (by decide) (by decide) (by decide) (Nat.le_of_ble_eq_true rfl) (Nat.le_of_ble_eq_true rfl) dX0_init_57 (fun q7 c7 H hK hP hD hS => ?_)
  have hK : va_K (dC, dI) qf_cl [(c1, .byte), (c2, .byte), (c3, .byte), (c4, .boolean), (c5, .boolean), (c6, .boolean), (c7, .short)] s := hK
  have hP : va_P (dC, dI) qf_cl [(h0, .inr (0, [.ref q1, .ref q2, .ref q3, .ref q4, .ref q5, .ref q6, .int 0, .null])), (q1, .inl (c1, 2, .inl (fun _ => 0))), (q2, .inl (c2, 2, .inl (fun _ => 0))), (q3, .inl (c3, 128, .inl (fun _ => 0))), (q4, .inl (c4, 128, .inl (fun _ => 0))), (q5, .inl (c5, 128, .inl (fun _ => 0))), (q6, .inl (c6, 128, .inl (fun _ => 0))), (q7, .inl (c7, 64, .inl (fun _ => 0)))] H := hP
  have hD : va_D A [(h0, .inr (0, [.ref q1, .ref q2, .ref q3, .ref q4, .ref q5, .ref q6, .int 0, .null])), (q1, .inl (c1, 2, .inl (fun _ => 0))), (q2, .inl (c2, 2, .inl (fun _ => 0))), (q3, .inl (c3, 128, .inl (fun _ => 0))), (q4, .inl (c4, 128, .inl (fun _ => 0))), (q5, .inl (c5, 128, .inl (fun _ => 0))), (q6, .inl (c6, 128, .inl (fun _ => 0))), (q7, .inl (c7, 64, .inl (fun _ => 0)))] := hD
  refine W.widen (k := 7) (n := 580) (Nat.le_of_ble_eq_true rfl) (Nat.le_of_ble_eq_true rfl) ?_
  refine va_putF (D := (dC, dI)) (ci := 0) (v := .ref q7) (ty := .array .short) (C := RX0) (T := TX0) (N := 8) hx hb hts in_X0 tyX0 tyX0_ok nmX0 hown hK hP hD hS 0 rfl rfl 7 (by decide) (hts _ q38) (fun _ h9 => h9) rfl hin rfl (by decide +kernel) rfl rfl (Nat.le_of_ble_eq_true rfl) dX0_init_59 (fun H locs hP hD hS => ?_)
  have hP : va_P (dC, dI) qf_cl [(h0, .inr (0, [.ref q1, .ref q2, .ref q3, .ref q4, .ref q5, .ref q6, .int 0, .ref q7])), (q1, .inl (c1, 2, .inl (fun _ => 0))), (q2, .inl (c2, 2, .inl (fun _ => 0))), (q3, .inl (c3, 128, .inl (fun _ => 0))), (q4, .inl (c4, 128, .inl (fun _ => 0))), (q5, .inl (c5, 128, .inl (fun _ => 0))), (q6, .inl (c6, 128, .inl (fun _ => 0))), (q7, .inl (c7, 64, .inl (fun _ => 0)))] H := hP
  have hD : va_D A [(h0, .inr (0, [.ref q1, .ref q2, .ref q3, .ref q4, .ref q5, .ref q6, .int 0, .ref q7])), (q1, .inl (c1, 2, .inl (fun _ => 0))), (q2, .inl (c2, 2, .inl (fun _ => 0))), (q3, .inl (c3, 128, .inl (fun _ => 0))), (q4, .inl (c4, 128, .inl (fun _ => 0))), (q5, .inl (c5, 128, .inl (fun _ => 0))), (q6, .inl (c6, 128, .inl (fun _ => 0))), (q7, .inl (c7, 64, .inl (fun _ => 0)))] := hD
  refine lv_aload_n hx hb dX0_init_62 rfl (lv_at hl 0 rfl) ?_
  refine va_get (D := (dC, dI)) (ci := 0) (v := .ref q1) (C := RX0) (T := TX0) (N := 8) hx hb hts in_X0 hown hK hP 0 rfl rfl 0 (by decide) (hts _ q31) (fun _ h9 => h9) rfl dX0_init_63 ?_
  refine lv_iconst (v := nI 0) hx hb dX0_init_66 (by decide) ?_
  refine lv_iconst (v := nI 3) hx hb dX0_init_67 (by decide) ?_
  refine va_bast hx hb hK hP hD hS 1 0 rfl rfl (vp_in_nI (n := 0) (by decide) (by decide)) dX0_init_68 (fun H locs hP hD hS => ?_)
  have hP : va_P (dC, dI) qf_cl [(h0, .inr (0, [.ref q1, .ref q2, .ref q3, .ref q4, .ref q5, .ref q6, .int 0, .ref q7])), (q1, .inl (c1, 2, .inl (upd (fun _ => 0) (nI 0).toNatClampNeg (vp_nar .byte (nI 3))))), (q2, .inl (c2, 2, .inl (fun _ => 0))), (q3, .inl (c3, 128, .inl (fun _ => 0))), (q4, .inl (c4, 128, .inl (fun _ => 0))), (q5, .inl (c5, 128, .inl (fun _ => 0))), (q6, .inl (c6, 128, .inl (fun _ => 0))), (q7, .inl (c7, 64, .inl (fun _ => 0)))] H := hP
  have hD : va_D A [(h0, .inr (0, [.ref q1, .ref q2, .ref q3, .ref q4, .ref q5, .ref q6, .int 0, .ref q7])), (q1, .inl (c1, 2, .inl (upd (fun _ => 0) (nI 0).toNatClampNeg (vp_nar .byte (nI 3))))), (q2, .inl (c2, 2, .inl (fun _ => 0))), (q3, .inl (c3, 128, .inl (fun _ => 0))), (q4, .inl (c4, 128, .inl (fun _ => 0))), (q5, .inl (c5, 128, .inl (fun _ => 0))), (q6, .inl (c6, 128, .inl (fun _ => 0))), (q7, .inl (c7, 64, .inl (fun _ => 0)))] := hD
  refine lv_aload_n hx hb dX0_init_69 rfl (lv_at hl 0 rfl) ?_
  refine va_get (D := (dC, dI)) (ci := 0) (v := .ref q1) (C := RX0) (T := TX0) (N := 8) hx hb hts in_X0 hown hK hP 0 rfl rfl 0 (by decide) (hts _ q31) (fun _ h9 => h9) rfl dX0_init_70 ?_
  refine lv_iconst (v := nI 1) hx hb dX0_init_73 (by decide) ?_
  refine lv_iconst (v := nI 3) hx hb dX0_init_74 (by decide) ?_
  refine va_bast hx hb hK hP hD hS 1 0 rfl rfl (vp_in_nI (n := 1) (by decide) (by decide)) dX0_init_75 (fun H locs hP hD hS => ?_)
  have hP : va_P (dC, dI) qf_cl [(h0, .inr (0, [.ref q1, .ref q2, .ref q3, .ref q4, .ref q5, .ref q6, .int 0, .ref q7])), (q1, .inl (c1, 2, .inl (upd (upd (fun _ => 0) (nI 0).toNatClampNeg (vp_nar .byte (nI 3))) (nI 1).toNatClampNeg (vp_nar .byte (nI 3))))), (q2, .inl (c2, 2, .inl (fun _ => 0))), (q3, .inl (c3, 128, .inl (fun _ => 0))), (q4, .inl (c4, 128, .inl (fun _ => 0))), (q5, .inl (c5, 128, .inl (fun _ => 0))), (q6, .inl (c6, 128, .inl (fun _ => 0))), (q7, .inl (c7, 64, .inl (fun _ => 0)))] H := hP
  have hD : va_D A [(h0, .inr (0, [.ref q1, .ref q2, .ref q3, .ref q4, .ref q5, .ref q6, .int 0, .ref q7])), (q1, .inl (c1, 2, .inl (upd (upd (fun _ => 0) (nI 0).toNatClampNeg (vp_nar .byte (nI 3))) (nI 1).toNatClampNeg (vp_nar .byte (nI 3))))), (q2, .inl (c2, 2, .inl (fun _ => 0))), (q3, .inl (c3, 128, .inl (fun _ => 0))), (q4, .inl (c4, 128, .inl (fun _ => 0))), (q5, .inl (c5, 128, .inl (fun _ => 0))), (q6, .inl (c6, 128, .inl (fun _ => 0))), (q7, .inl (c7, 64, .inl (fun _ => 0)))] := hD
  obtain ⟨g, hgd⟩ : ∃ g : Nat → Nat, g = fun k => [h0, q1, q2, q3, q4, q5, q6, q7].getD k 0 := ⟨_, rfl⟩
  obtain ⟨dA, hdd⟩ : ∃ dA : Nat → ClassId, dA = fun k => [c1, c1, c2, c3, c4, c5, c6, c7].getD k c1 := ⟨_, rfl⟩
  have hP : va_P (dC, dI) qf_cl (qf_r g dA (upd (upd (fun _ => 0) (nI 0).toNatClampNeg (vp_nar .byte (nI 3))) (nI 1).toNatClampNeg (vp_nar .byte (nI 3))) (fun _ => 0) (fun _ => 0) (fun _ => 0) (fun _ => 0) (fun _ => 0) 0 (fun _ => 0)) H := by rw [hgd, hdd]; exact hP
  have hD : va_D A (qf_r g dA (upd (upd (fun _ => 0) (nI 0).toNatClampNeg (vp_nar .byte (nI 3))) (nI 1).toNatClampNeg (vp_nar .byte (nI 3))) (fun _ => 0) (fun _ => 0) (fun _ => 0) (fun _ => 0) (fun _ => 0) 0 (fun _ => 0)) := by rw [hgd, hdd]; exact hD
  have hK : va_K (dC, dI) qf_cl (qf_tys dA) s := by rw [hdd]; exact hK
  have hP9 : va_P (dC, dI) qf_cl (qf_w g dA qf_u0) H := by
    refine qf_w_of (u := qf_u0) hP (fun j => ?_) (fun _ => rfl) (fun _ => rfl) (fun _ => rfl) (fun _ => rfl) (fun _ => rfl) rfl (fun _ => rfl)
    show upd (upd (fun _ => 0) (nI 0).toNatClampNeg (vp_nar .byte (nI 3))) (nI 1).toNatClampNeg (vp_nar .byte (nI 3)) j = nI (if j = 1 then 3 else if j = 0 then 3 else 0)
    rw [nI_clamp (by decide), nI_clamp (by decide), qf_byte (by decide)]
    unfold upd
    by_cases e1 : j = 1
    · rw [if_pos e1, if_pos e1]
    · rw [if_neg e1, if_neg e1]
      by_cases e2 : j = 0
      · rw [if_pos e2, if_pos e2]
      · rw [if_neg e2, if_neg e2]; rfl
  have hD9 : va_D A (qf_w g dA qf_u0) := by
    refine ⟨fun i j x y hi hj e => ?_, fun k x hk => ?_⟩
    · exact hD.1 i j (((qf_r g dA (upd (upd (fun _ => 0) (nI 0).toNatClampNeg (vp_nar .byte (nI 3))) (nI 1).toNatClampNeg (vp_nar .byte (nI 3))) (fun _ => 0) (fun _ => 0) (fun _ => 0) (fun _ => 0) (fun _ => 0) 0 (fun _ => 0))[i]?).getD (0, .inr (0, []))) (((qf_r g dA (upd (upd (fun _ => 0) (nI 0).toNatClampNeg (vp_nar .byte (nI 3))) (nI 1).toNatClampNeg (vp_nar .byte (nI 3))) (fun _ => 0) (fun _ => 0) (fun _ => 0) (fun _ => 0) (fun _ => 0) 0 (fun _ => 0))[j]?).getD (0, .inr (0, []))) (qf_r_get (qf_r_at hi).1) (qf_r_get (qf_r_at hj).1) (by rw [qf_r_fst (qf_r_at hi).1, qf_r_fst (qf_r_at hj).1, ← (qf_r_at hi).2, ← (qf_r_at hj).2]; exact e)
    · have := hD.2 k (((qf_r g dA (upd (upd (fun _ => 0) (nI 0).toNatClampNeg (vp_nar .byte (nI 3))) (nI 1).toNatClampNeg (vp_nar .byte (nI 3))) (fun _ => 0) (fun _ => 0) (fun _ => 0) (fun _ => 0) (fun _ => 0) 0 (fun _ => 0))[k]?).getD (0, .inr (0, []))) (qf_r_get (qf_r_at hk).1)
      rw [qf_r_fst (qf_r_at hk).1, ← (qf_r_at hk).2] at this
      exact this
  have hg0 : g 0 = h0 := by rw [hgd]; rfl
  refine W.widen (k := 7) (n := 580) (Nat.le_of_ble_eq_true rfl) (Nat.le_of_ble_eq_true rfl) ?_
  exact W.vret hx hb hr (fun t ht hW => ⟨⟨(g, dA), rfl, hg0, by rw [ht]; exact hP9, va_K.moved hW.alike hK, hD9⟩, hS.F ht⟩) hS.2.2 dX0_init_76
end
section
/-! THE REFERENCE: its world and rows -/
def qm_r (g : Nat → Nat) (dA : Nat → ClassId) (o z : Nat → Int32) : va_W := [(g 0, .inr (1, [.ref (g 1), .ref (g 2)])), (g 1, .inl (dA 1, 512, .inl o)), (g 2, .inl (dA 2, 2, .inl z))]
def qm_w (g : Nat → Nat) (dA : Nat → ClassId) (a : qa_S) : va_W := qm_r g dA (fun j => nI (a.2 (j / 256) (j % 256))) (fun j => nI (2 ^ a.1 j))
abbrev qm_tys (dA : Nat → ClassId) : List (ClassId × FieldType) := [(dA 1, .int), (dA 2, .int)]
def qm_dj (g : Nat → Nat) : Prop := ∀ i j, i < 3 → j < 3 → g i = g j → i = j
def qm_A (g : Nat → Nat) : Nat → Prop := fun q => ∃ k, k < 3 ∧ q = g k
theorem qm_r_at {g : Nat → Nat} {dA : Nat → ClassId} {o z : Nat → Int32} {k : Nat} {q : Nat × va_E} (hk : (qm_r g dA o z)[k]? = some q) : k < 3 ∧ q.1 = g k := by
  match k, hk with
  | 0, hk => cases hk; exact ⟨by decide, rfl⟩
  | 1, hk => cases hk; exact ⟨by decide, rfl⟩
  | 2, hk => cases hk; exact ⟨by decide, rfl⟩
  | k + 3, hk => simp [qm_r] at hk
theorem qm_r_get {g : Nat → Nat} {dA : Nat → ClassId} {o z : Nat → Int32} {k : Nat} (hk : k < 3) : (qm_r g dA o z)[k]? = some (((qm_r g dA o z)[k]?).getD (0, .inr (0, []))) ∧ (((qm_r g dA o z)[k]?).getD (0, .inr (0, []))).1 = g k := by
  match k, hk with
  | 0, _ => exact ⟨rfl, rfl⟩
  | 1, _ => exact ⟨rfl, rfl⟩
  | 2, _ => exact ⟨rfl, rfl⟩
  | k + 3, hk => omega
theorem qm_D {g : Nat → Nat} (hg : qm_dj g) (dA : Nat → ClassId) (a : qa_S) : va_D (qm_A g) (qm_w g dA a) := by
  refine ⟨fun i j p q hi hj e => ?_, fun k q hk => ?_⟩
  · obtain ⟨i8, ei⟩ := qm_r_at hi
    obtain ⟨j8, ej⟩ := qm_r_at hj
    exact hg i j i8 j8 (ei.symm.trans (e.trans ej))
  · obtain ⟨k8, ek⟩ := qm_r_at hk
    exact ⟨k, k8, ek⟩
theorem qm_w_of {dC : Nat → ClassId} {dI : Nat → Nat → Nat} {g : Nat → Nat} {dA : Nat → ClassId} {o z : Nat → Int32} {H : Heap} {a : qa_S} (hP : va_P (dC, dI) qf_cl (qm_r g dA o z) H) (e1 : ∀ j, o j = nI (a.2 (j / 256) (j % 256))) (e2 : ∀ j, z j = nI (2 ^ a.1 j)) : va_P (dC, dI) qf_cl (qm_w g dA a) H := by
  have h1 := funext e1
  have h2 := funext e2
  subst h1; subst h2
  exact hP
theorem qm_ext {dC : Nat → ClassId} {dI : Nat → Nat → Nat} {g : Nat → Nat} {dA : Nat → ClassId} {H : Heap} {a a' : qa_S} (hP : va_P (dC, dI) qf_cl (qm_w g dA a) H) (e1 : ∀ f p, p < 256 → a.2 f p = a'.2 f p) (e2 : ∀ f, a.1 f = a'.1 f) : va_P (dC, dI) qf_cl (qm_w g dA a') H :=
  qm_w_of hP (fun j => by rw [e1 (j / 256) (j % 256) (by omega)]) (fun j => by rw [e2 j])
def qm_setO (a : qa_S) (f p v : Nat) : qa_S := (a.1, va_up a.2 f (va_up (a.2 f) p v))
def qm_setZ (a : qa_S) (f b : Nat) : qa_S := (va_up a.1 f b, a.2)
section QMR
variable {p : Program} {l : Launch} {e : Env} {R : Room} {s : State} {m : MethodId} {args : Array Value} {below : List Frame} {meth : Method} {c : Code} {H H0 : Heap} {locs : List Loc} {cells slots : Nat} {Q : State → Prop} {cc : ByteArray} {pc nL : Nat} {ls : Array Slot} {rest : List Value} {g : Nat → Nat} {dC : Nat → ClassId} {dI : Nat → Nat → Nat} {dA : Nat → ClassId} {a : qa_S}
theorem mg_O (S : CallFix p m c cc nL s args lw_all RX1) (hK : va_K (dC, dI) qf_cl (qm_tys dA) s) (hP : va_P (dC, dI) qf_cl (qm_w g dA a) H) (hdg : decode cc pc = .ok (.getfield 7, 3)) (kk : W p l e R s m args below meth c H locs cells slots Q (F0 m (pc + 3) ls (.ref (g 1) :: rest))) : W p l e R s m args below meth c H locs cells slots Q (F0 m pc ls (.ref (g 0) :: rest)) :=
  va_get (D := (dC, dI)) (ci := 1) (v := .ref (g 1)) (C := RX1) (T := TX1) (N := 2) S.1 S.2.1 S.2.2.2.2 in_X1 S.2.2.2.1 hK hP 0 rfl rfl 0 (by decide) (S.2.2.2.2 _ q191) (fun _ h9 => h9) rfl hdg kk
theorem mg_Z (S : CallFix p m c cc nL s args lw_all RX1) (hK : va_K (dC, dI) qf_cl (qm_tys dA) s) (hP : va_P (dC, dI) qf_cl (qm_w g dA a) H) (hdg : decode cc pc = .ok (.getfield 13, 3)) (kk : W p l e R s m args below meth c H locs cells slots Q (F0 m (pc + 3) ls (.ref (g 2) :: rest))) : W p l e R s m args below meth c H locs cells slots Q (F0 m pc ls (.ref (g 0) :: rest)) :=
  va_get (D := (dC, dI)) (ci := 1) (v := .ref (g 2)) (C := RX1) (T := TX1) (N := 2) S.1 S.2.1 S.2.2.2.2 in_X1 S.2.2.2.1 hK hP 0 rfl rfl 1 (by decide) (S.2.2.2.2 _ q192) (fun _ h9 => h9) rfl hdg kk
theorem ml_O {f x : Nat} {i : Int32} (S : CallFix p m c cc nL s args lw_all RX1) (hK : va_K (dC, dI) qf_cl (qm_tys dA) s) (hP : va_P (dC, dI) qf_cl (qm_w g dA a) H) (hi : i = nI (256 * f + x)) (hf : f < 2) (hx : x < 256) (hdg : decode cc pc = .ok (.iaload, 1)) (kk : W p l e R s m args below meth c H locs cells slots Q (F0 m (pc + 1) ls (.int (nI (a.2 f x)) :: rest))) : W p l e R s m args below meth c H locs cells slots Q (F0 m pc ls (.int i :: .ref (g 1) :: rest)) := by
  subst hi
  refine va_iald S.1 S.2.1 hK hP 1 0 rfl rfl (vp_in_nI (by omega) (by decide)) hdg ?_
  rw [nI_clamp (by omega)]
  show W p l e R s m args below meth c H locs cells slots Q (F0 m (pc + 1) ls (.int (nI (a.2 ((256 * f + x) / 256) ((256 * f + x) % 256))) :: rest))
  have a1 : (256 * f + x) / 256 = f := by omega
  have a2 : (256 * f + x) % 256 = x := by omega
  rw [a1, a2]
  exact kk
theorem ml_Z {f : Nat} (S : CallFix p m c cc nL s args lw_all RX1) (hK : va_K (dC, dI) qf_cl (qm_tys dA) s) (hP : va_P (dC, dI) qf_cl (qm_w g dA a) H) (hf : f < 2) (hdg : decode cc pc = .ok (.iaload, 1)) (kk : W p l e R s m args below meth c H locs cells slots Q (F0 m (pc + 1) ls (.int (nI (2 ^ a.1 f)) :: rest))) : W p l e R s m args below meth c H locs cells slots Q (F0 m pc ls (.int (nI f) :: .ref (g 2) :: rest)) := by
  refine va_iald S.1 S.2.1 hK hP 2 1 rfl rfl (vp_in_nI hf (by decide)) hdg ?_
  rw [nI_clamp (by omega)]
  exact kk
theorem ms_O {f x v : Nat} {i y : Int32} (S : CallFix p m c cc nL s args lw_all RX1) (hK : va_K (dC, dI) qf_cl (qm_tys dA) s) (hP : va_P (dC, dI) qf_cl (qm_w g dA a) H) (hg : qm_dj g) (hS : va_S (qm_A g) H0 H locs) (hi : i = nI (256 * f + x)) (hy : y = nI v) (hf : f < 2) (hx : x < 256) (hdg : decode cc pc = .ok (.iastore, 1)) (kk : ∀ (H1 : Heap) (locs1 : List Loc), va_P (dC, dI) qf_cl (qm_w g dA (qm_setO a f x v)) H1 → va_S (qm_A g) H0 H1 locs1 → W p l e R s m args below meth c H1 locs1 cells slots Q (F0 m (pc + 1) ls rest)) : W p l e R s m args below meth c H locs cells slots Q (F0 m pc ls (.int y :: .int i :: .ref (g 1) :: rest)) := by
  subst hi
  subst hy
  refine va_iast S.1 S.2.1 hK hP (qm_D hg dA a) hS 1 0 rfl rfl (vp_in_nI (by omega) (by decide)) hdg (fun H1 locs1 hP1 _ hS1 => kk H1 locs1 ?_ hS1)
  rw [nI_clamp (by omega)] at hP1
  refine qm_w_of (a := qm_setO a f x v) hP1 (fun j => ?_) (fun _ => rfl)
  show upd (fun j => nI (a.2 (j / 256) (j % 256))) (256 * f + x) (nI v) j = nI (va_up a.2 f (va_up (a.2 f) x v) (j / 256) (j % 256))
  by_cases e : j = 256 * f + x
  · have a1 : (256 * f + x) / 256 = f := by omega
    have a2 : (256 * f + x) % 256 = x := by omega
    subst e
    simp only [upd, if_true, a1, a2, va_up]
  · simp only [upd, if_neg e]
    by_cases e1 : j / 256 = f
    · have e2 : j % 256 ≠ x := by omega
      simp only [va_up, e1, if_true, if_neg e2]
    · simp only [va_up, if_neg e1]
theorem ms_Z {f v : Nat} {y : Int32} (S : CallFix p m c cc nL s args lw_all RX1) (hK : va_K (dC, dI) qf_cl (qm_tys dA) s) (hP : va_P (dC, dI) qf_cl (qm_w g dA a) H) (hg : qm_dj g) (hS : va_S (qm_A g) H0 H locs) (hy : y = nI (2 ^ v)) (hf : f < 2) (hdg : decode cc pc = .ok (.iastore, 1)) (kk : ∀ (H1 : Heap) (locs1 : List Loc), va_P (dC, dI) qf_cl (qm_w g dA (qm_setZ a f v)) H1 → va_S (qm_A g) H0 H1 locs1 → W p l e R s m args below meth c H1 locs1 cells slots Q (F0 m (pc + 1) ls rest)) : W p l e R s m args below meth c H locs cells slots Q (F0 m pc ls (.int y :: .int (nI f) :: .ref (g 2) :: rest)) := by
  subst hy
  refine va_iast S.1 S.2.1 hK hP (qm_D hg dA a) hS 2 1 rfl rfl (vp_in_nI hf (by decide)) hdg (fun H1 locs1 hP1 _ hS1 => kk H1 locs1 ?_ hS1)
  rw [nI_clamp (by omega)] at hP1
  refine qm_w_of (a := qm_setZ a f v) hP1 (fun _ => rfl) (fun j => ?_)
  show upd (fun j => nI (2 ^ a.1 j)) f (nI (2 ^ v)) j = nI (2 ^ va_up a.1 f v j)
  by_cases e : j = f
  · simp [upd, va_up, e]
  · simp [upd, va_up, e]
end QMR
def qm_Pc (g : Nat → Nat) (dA : Nat → ClassId) (dC : Nat → ClassId) (dI : Nat → Nat → Nat) (a : qa_S) (As : List Value) : Array Value → State → Prop := va_Pc (.ref (g 0) :: As) (fun U => va_P (dC, dI) qf_cl (qm_w g dA a) U.heap ∧ va_K (dC, dI) qf_cl (qm_tys dA) U)
def qm_Bt (g : Nat → Nat) (dA : Nat → ClassId) (dC : Nat → ClassId) (dI : Nat → Nat → Nat) (a : qa_S) (t : State) : Prop := va_P (dC, dI) qf_cl (qm_w g dA a) t.heap
theorem qm_blind {g : Nat → Nat} {dA : Nat → ClassId} {dC : Nat → ClassId} {dI : Nat → Nat → Nat} {a : qa_S} {As : List Value} : FrameBlind (qm_Pc g dA dC dI a As) := fun x U g' mk q => ⟨q.1, q.2.1, va_K.moved (u := U) (U := U.calling g' mk x) (Vm.Alike.refl U.vm) q.2.2⟩
section QMC
variable {p : Program} {l : Launch} {e : Env} {R : Room} {s : State} {m : MethodId} {args : Array Value} {below : List Frame} {meth : Method} {c : Code} {H H0 : Heap} {locs : List Loc} {cells slots : Nat} {Q : State → Prop} {cc : ByteArray} {pc nL : Nat} {ls : Array Slot} {rest : List Value} {g : Nat → Nat} {dC : Nat → ClassId} {dI : Nat → Nat → Nat} {dA : Nat → ClassId} {a : qa_S}
variable {y : MethodName} {b : ByteArray} {L n idx : Nat} {rt : FieldType} {rm : Room} {As : List Value} {own : String}
theorem qm_pre (hK : va_K (dC, dI) qf_cl (qm_tys dA) s) (hP : va_P (dC, dI) qf_cl (qm_w g dA a) H) : PreV s H RX1 (g 0) (qm_Pc g dA dC dI a As) As :=
  ⟨qm_blind, va_recv hK hP (ci := 1) (q0 := 0) rfl rfl, fun U hU hW => ⟨rfl, by rw [hU]; exact hP, va_K.moved hW.alike hK⟩⟩
theorem qm_callR {post : Int32 → Prop} (S : CallFix p m c cc nL s args lw_all own) (hK : va_K (dC, dI) qf_cl (qm_tys dA) s) (hP : va_P (dC, dI) qf_cl (qm_w g dA a) H) (hM : Met l y (ws_ y b L (some rt)) rm (qm_Pc g dA dC dI a As) (vp_Si post) 0 0 (fun _ => False)) (hw : GoodIn lw_all (wsV own idx RX1 y (ws_ y b L (some rt)))) (hrc : rm.cells = 0) (hrs : rm.slots = 0) (hd : y.cls = RX1 ∧ y.cls ≠ "java/lang/invoke/MethodHandle" ∧ y.cls ≠ "java/lang/invoke/VarHandle" ∧ (parseMethodDescriptor y.desc).map (fun d => d.parameters.length) = some n) (hR : qf_RM R (rm.frames + 1) (8 + (L + 11) + rm.locals)) (hn : As.length = n) (hsz : ls.size = nL) (hroom : (rest.map fun v => v.category).sum ≤ 8) (hdg : decode cc pc = .ok (.invokevirtual idx, 3)) (hcs : cells ≤ R.cells ∧ slots ≤ R.slots) {st : List Value} (hst : st = As.reverse ++ .ref (g 0) :: rest) (kk : ∀ r, post r → W p l e R s m args below meth c H locs cells slots Q (F0 m (pc + 3) ls (.int r :: rest))) : W p l e R s m args below meth c H locs cells slots Q (F0 m pc ls st) :=
  vp_callSi (W.runV S hM (cwV n S.2.2.2.2 hw rfl hrc hrs hd hR) (qm_pre hK hP) rfl hn hsz hst (lv_room hroom) hdg hcs) kk
theorem qm_calli {post : Int32 → qa_S → Prop} (S : CallFix p m c cc nL s args lw_all own) (hK : va_K (dC, dI) qf_cl (qm_tys dA) s) (hP : va_P (dC, dI) qf_cl (qm_w g dA a) H) {A : Nat → Prop} (hS : va_S A H0 H locs) (hA : ∀ q, qm_A g q → A q) (hM : Met l y (ws_ y b L (some rt)) rm (qm_Pc g dA dC dI a As) (va_Qi post (qm_Bt g dA dC dI) (qm_A g)) 0 0 (qm_A g)) (hw : GoodIn lw_all (wsV own idx RX1 y (ws_ y b L (some rt)))) (hrc : rm.cells = 0) (hrs : rm.slots = 0) (hd : y.cls = RX1 ∧ y.cls ≠ "java/lang/invoke/MethodHandle" ∧ y.cls ≠ "java/lang/invoke/VarHandle" ∧ (parseMethodDescriptor y.desc).map (fun d => d.parameters.length) = some n) (hR : qf_RM R (rm.frames + 1) (8 + (L + 11) + rm.locals)) (hn : As.length = n) (hsz : ls.size = nL) (hroom : (rest.map fun v => v.category).sum ≤ 8) (hdg : decode cc pc = .ok (.invokevirtual idx, 3)) (hcs : cells ≤ R.cells ∧ slots ≤ R.slots) {st : List Value} (hst : st = As.reverse ++ .ref (g 0) :: rest) (kk : ∀ (r : Int32) (a1 : qa_S) (H1 : Heap) (locs1 : List Loc), post r a1 → va_P (dC, dI) qf_cl (qm_w g dA a1) H1 → va_S A H0 H1 locs1 → H.size ≤ H1.size → (∀ q : Nat, q < H.size → ¬ qm_A g q → H1[q]? = H[q]?) → W p l e R s m args below meth c H1 locs1 cells slots Q (F0 m (pc + 3) ls (.int r :: rest))) : W p l e R s m args below meth c H locs cells slots Q (F0 m pc ls st) :=
  va_calli (va_runV S hM (cwV n S.2.2.2.2 hw rfl hrc hrs hd hR) (qm_pre hK hP) rfl hn hsz hst (lv_room hroom) hdg hcs) hS (fun q _ h => hA q h) hA (fun r a1 t H1 locs1 ht _ hp hB hz hk hS1 => kk r a1 H1 locs1 hp (by rw [← ht]; exact hB) hS1 hz hk)
theorem qm_met {ret : Option FieldType} {Qc : Array Value → State → Outcome → State → Prop} {free : Addr → Prop} (hy : plainName y.cls = true) (hc : y.cls = RX1) (hlen : (lg_sl (.ref (g 0) :: As)).length ≤ L)
    (body : ∀ (p : Program) (e : Env) (s : State) (m : MethodId) (below : List Frame) (meth : Method) (c : Code) (ls : Array Slot), CallFix p m c b L s (Value.ref (g 0) :: As).toArray lw_all RX1 → meth.sig.returnType = ret → meth.locks = false → va_P (dC, dI) qf_cl (qm_w g dA a) s.heap → va_K (dC, dI) qf_cl (qm_tys dA) s → lv_has ls L (lv_args 0 (.ref (g 0) :: As)) → W p l e rm s m (Value.ref (g 0) :: As).toArray below meth c s.heap [] 0 0 (MQ below Qc (Value.ref (g 0) :: As).toArray s 0 0 free) (F0 m 0 ls [])) : Met l y (ws_ y b L ret) rm (qm_Pc g dA dC dI a As) Qc 0 0 free := by
  refine Met.ofW (cc := b) (maxL := L) (ret := ret) hy rfl ?_
  intro p e s m args below meth c s₁ B hml hv
  obtain ⟨rfl, hP, hK⟩ := hv
  have hts := atoms_spec (ws := ws_ y b L ret) B.pre
  have hts : ∀ w ∈ lw_all, w.before _ s = true := fun w h => hts w (List.mem_cons_of_mem _ h)
  have hown : s.vm.findClass RX1 = some m.cls := by rw [← hc]; exact findClass_of_methodNamed B.named
  have hl := lv_entry (.ref (g 0) :: As) (n := L) hlen
  rw [lg_entry_eq]
  exact body p e s m below meth c _ ⟨B.exec, B.bytes, hml, hown, hts⟩ B.returns B.notSynchronized hP hK hl
end QMC
end
section
/-! THE REFERENCE: contracts of its methods against the numbers -/
def qm_ok (a : qa_S) : Prop := ∀ f, f < 2 → qf_bk (a.1 f) ∧ qa_H a f < 64
theorem qf_good_ok {u : qf_QS} {a : qa_S} (h : qf_good u a) : qm_ok a := fun f hf => ⟨(h f hf).1, by rw [qf_good_H h hf]; exact qf_inv_lt (h f hf)⟩
theorem qm_two (b : Nat) : 2 * 2 ^ b = 2 ^ (b + 1) := by rw [Nat.pow_succ, Nat.mul_comm]
theorem qm_half {b : Nat} (h : qf_bk b) : nI (2 ^ b) / nI 2 = nI (2 ^ (b - 1)) := by
  rcases qf_bk_4 h with e | e | e | e <;> subst e <;> decide
theorem qm_pow {b b' : Nat} (h : qf_bk b) (h' : qf_bk b') (e : 2 ^ b = 2 ^ b') : b = b' := by
  rcases qf_bk_4 h with q | q | q | q <;> subst q <;> rcases qf_bk_4 h' with r | r | r | r <;> subst r <;> first | rfl | exact absurd e (by decide)
set_option maxHeartbeats 4000000 in
set_option maxRecDepth 100000 in
theorem met_misFilter (l : Launch) (dC : Nat → ClassId) (dI : Nat → Nat → Nat) (dA : Nat → ClassId) (g : Nat → Nat) (a : qa_S) (x : Int32) : Met l yX1_isFilter (ws_ yX1_isFilter cX1_isFilter 2 (some .boolean)) ({ frames := 0, cells := 0, slots := 0, locals := 0 }) (qm_Pc g dA dC dI a [.int x]) (vp_Si (fun r => r = qf_b (decide (x = 0 ∨ x = 1)))) 0 0 (fun _ => False) := by
  refine qm_met (by decide) rfl (Nat.le_of_ble_eq_true rfl) ?_
  intro p e s m below meth c ls S hr hlocks hP hK hl
  have hR : qf_RM ({ frames := 0, cells := 0, slots := 0, locals := 0 }) 0 0 := ⟨Nat.le_refl _, Nat.le_refl _⟩
  have hl : lv_has ls 2 [(0, .ref (g 0)), (1, .int x)] := hl
  refine lv_iload_n S.1 S.2.1 dX1_isFilter_0 rfl (lv_at hl 1 rfl) ?_
  refine lv_if_eq (tgt := 9) S.1 S.2.1 dX1_isFilter_1 (by decide) (fun h1 => ?_) (fun h1 => ?_)
  · refine lv_iconst (v := nI 1) S.1 S.2.1 dX1_isFilter_9 (by decide) ?_
    refine lv_goto (tgt := 14) S.1 S.2.1 dX1_isFilter_10 (by decide) ?_
    exact W.zret S.1 S.2.1 hr rfl (fun t ht hW => ⟨_, rfl, by rw [h1]; rfl, ht⟩) (fun _ h => by cases h) dX1_isFilter_14
  · refine lv_iload_n S.1 S.2.1 dX1_isFilter_4 rfl (lv_at hl 1 rfl) ?_
    refine lv_iconst (v := 1) S.1 S.2.1 dX1_isFilter_5 (by decide) ?_
    refine lv_icmp_ne (tgt := 13) S.1 S.2.1 dX1_isFilter_6 (by decide) (fun h2 => ?_) (fun h2 => ?_)
    · refine lv_iconst (v := nI 0) S.1 S.2.1 dX1_isFilter_13 (by decide) ?_
      exact W.zret S.1 S.2.1 hr rfl (fun t ht hW => ⟨_, rfl, by rw [decide_eq_false (fun h => h.elim h1 h2)]; rfl, ht⟩) (fun _ h => by cases h) dX1_isFilter_14
    · refine lv_iconst (v := nI 1) S.1 S.2.1 dX1_isFilter_9 (by decide) ?_
      refine lv_goto (tgt := 14) S.1 S.2.1 dX1_isFilter_10 (by decide) ?_
      exact W.zret S.1 S.2.1 hr rfl (fun t ht hW => ⟨_, rfl, by rw [decide_eq_true (Or.inr h2)]; rfl, ht⟩) (fun _ h => by cases h) dX1_isFilter_14
set_option maxHeartbeats 4000000 in
set_option maxRecDepth 100000 in
theorem met_mprintOf (l : Launch) (dC : Nat → ClassId) (dI : Nat → Nat → Nat) (dA : Nat → ClassId) (g : Nat → Nat) (a : qa_S) (x : Int32) : Met l yX1_printOf (ws_ yX1_printOf cX1_printOf 2 (some .int)) ({ frames := 0, cells := 0, slots := 0, locals := 0 }) (qm_Pc g dA dC dI a [.int x]) (vp_Si (fun r => r = nI (qf_hash x))) 0 0 (fun _ => False) := by
  refine qm_met (by decide) rfl (Nat.le_of_ble_eq_true rfl) ?_
  intro p e s m below meth c ls S hr hlocks hP hK hl
  have hR : qf_RM ({ frames := 0, cells := 0, slots := 0, locals := 0 }) 0 0 := ⟨Nat.le_refl _, Nat.le_refl _⟩
  have hl : lv_has ls 2 [(0, .ref (g 0)), (1, .int x)] := hl
  refine lv_iload_n S.1 S.2.1 dX1_printOf_0 rfl (lv_at hl 1 rfl) ?_
  refine lv_ldc (v := -1640531535) S.1 S.2.1 S.2.2.2.1 (S.2.2.2.2 _ q215) dX1_printOf_1 ?_
  refine lv_imul S.1 S.2.1 dX1_printOf_3 ?_
  refine lv_bipush (v := nI 24) S.1 S.2.1 dX1_printOf_4 (by decide) ?_
  refine lv_iushr (v := nI (qf_hash x)) S.1 S.2.1 dX1_printOf_6 (qn_hash x) ?_
  exact W.iret S.1 S.2.1 hr (fun t ht hW => ⟨_, rfl, rfl, ht⟩) (fun _ h => by cases h) dX1_printOf_7
section QM1
variable {p : Program} {l : Launch} {e : Env} {R : Room} {s : State} {m : MethodId} {args : Array Value} {below : List Frame} {meth : Method} {c : Code} {H H0 : Heap} {locs : List Loc} {cells slots : Nat} {Q : State → Prop} {cc : ByteArray} {pc nL : Nat} {ls : Array Slot} {rest : List Value} {g : Nat → Nat} {dC : Nat → ClassId} {dI : Nat → Nat → Nat} {dA : Nat → ClassId} {a : qa_S} {f : Nat}
theorem mc_isFilter {x : Int32} (S : CallFix p m c cc nL s args lw_all RX1) (hK : va_K (dC, dI) qf_cl (qm_tys dA) s) (hP : va_P (dC, dI) qf_cl (qm_w g dA a) H)  (hR : qf_RM R 1 (8 + (2 + 11) + 0)) (hsz : ls.size = nL) (hroom : (rest.map fun v => v.category).sum ≤ 8) (hdg : decode cc pc = .ok (.invokevirtual 16, 3)) (kk : W p l e R s m args below meth c H locs 0 0 Q (F0 m (pc + 3) ls (.int (qf_b (decide (x = 0 ∨ x = 1))) :: rest))) : W p l e R s m args below meth c H locs 0 0 Q (F0 m pc ls (.int x :: .ref (g 0) :: rest)) :=
  qm_callR S hK hP (met_misFilter l dC dI dA g a x) (lw_V q203 q205 qs19 q22 q206) rfl rfl (by decide +kernel) hR (n := 1) rfl hsz hroom hdg ⟨Nat.zero_le _, Nat.zero_le _⟩ (As := [.int x]) rfl (fun r hr => by rw [hr]; exact kk)
theorem mc_printOf {x : Int32} (S : CallFix p m c cc nL s args lw_all RX1) (hK : va_K (dC, dI) qf_cl (qm_tys dA) s) (hP : va_P (dC, dI) qf_cl (qm_w g dA a) H)  (hR : qf_RM R 1 (8 + (2 + 11) + 0)) (hsz : ls.size = nL) (hroom : (rest.map fun v => v.category).sum ≤ 8) (hdg : decode cc pc = .ok (.invokevirtual 24, 3)) (kk : W p l e R s m args below meth c H locs 0 0 Q (F0 m (pc + 3) ls (.int (nI (qf_hash x)) :: rest))) : W p l e R s m args below meth c H locs 0 0 Q (F0 m pc ls (.int x :: .ref (g 0) :: rest)) :=
  qm_callR S hK hP (met_mprintOf l dC dI dA g a x) (lw_V q211 q212 q213 q22 q214) rfl rfl (by decide +kernel) hR (n := 1) rfl hsz hroom hdg ⟨Nat.zero_le _, Nat.zero_le _⟩ (As := [.int x]) rfl (fun r hr => by rw [hr]; exact kk)
end QM1
section QM2
variable {p : Program} {l : Launch} {e : Env} {R : Room} {s : State} {m : MethodId} {args : Array Value} {below : List Frame} {meth : Method} {c : Code} {H H0 : Heap} {locs : List Loc} {cells slots : Nat} {Q : State → Prop} {cc : ByteArray} {pc nL : Nat} {ls : Array Slot} {rest : List Value} {g : Nat → Nat} {dC : Nat → ClassId} {dI : Nat → Nat → Nat} {dA : Nat → ClassId} {a : qa_S} {f : Nat}
set_option maxHeartbeats 4000000 in
set_option maxRecDepth 100000 in
theorem mn_loop (S : CallFix p m c cX1_count 4 s args lw_all RX1) (hK : va_K (dC, dI) qf_cl (qm_tys dA) s) (hf : f < 2) (hR : qf_RM R 1 21) (hP : va_P (dC, dI) qf_cl (qm_w g dA a) H) (kk : ∀ ls, lv_has ls 4 [(0, .ref (g 0)), (2, .int (nI (qf_sm (a.2 f) 256)))] → W p l e R s m args below meth c H locs 0 0 Q (F0 m 42 ls [])) :
    ∀ (n i : Nat), 256 = i + n → ∀ ls, lv_has ls 4 [(0, .ref (g 0)), (1, .int (nI f)), (2, .int (nI (qf_sm (a.2 f) i))), (3, .int (nI i))] → W p l e R s m args below meth c H locs 0 0 Q (F0 m 14 ls []) := by
  intro n
  induction n using Nat.strongRecOn with
  | ind n ih =>
    intro i hi ls hl
    refine lv_iload_n S.1 S.2.1 dX1_count_14 rfl (lv_at hl 3 rfl) ?_
    refine lv_sipush (v := nI 256) S.1 S.2.1 dX1_count_15 (by decide) ?_
    refine qf_icmpge (tgt := 42) S.1 S.2.1 (by omega) (by decide) dX1_count_18 (by decide) (fun h1 => ?_) (fun h1 => ?_)
    · have e1 : i = 256 := by omega
      subst e1
      exact kk ls (lv_sub hl [0, 2] rfl)
    · refine lv_iload_n S.1 S.2.1 dX1_count_21 rfl (lv_at hl 2 rfl) ?_
      refine lv_aload_n S.1 S.2.1 dX1_count_22 rfl (lv_at hl 0 rfl) ?_
      refine mg_O S hK hP dX1_count_23 ?_
      refine lv_sipush (v := nI 256) S.1 S.2.1 dX1_count_26 (by decide) ?_
      refine lv_iload_n S.1 S.2.1 dX1_count_29 rfl (lv_at hl 1 rfl) ?_
      refine lv_imul S.1 S.2.1 dX1_count_30 ?_
      refine qf_top (pk_mul _ _) ?_
      refine lv_iload_n S.1 S.2.1 dX1_count_31 rfl (lv_at hl 3 rfl) ?_
      refine lv_iadd S.1 S.2.1 dX1_count_32 ?_
      refine qf_top (nI_add _ _) ?_
      refine ml_O (f := f) (x := i) S hK hP rfl hf h1 dX1_count_33 ?_
      refine lv_iadd S.1 S.2.1 dX1_count_34 ?_
      refine qf_top (nI_add _ _) ?_
      refine lv_istore_n (lv' := [(2, .int (nI (qf_sm (a.2 f) (i + 1)))), (0, .ref (g 0)), (1, .int (nI f)), (3, .int (nI i))]) S.1 S.2.1 dX1_count_35 rfl hl (by decide) rfl (fun ls hl => ?_)
      refine lv_iinc (v := nI (i + 1)) (lv' := [(3, .int (nI (i + 1))), (2, .int (nI (qf_sm (a.2 f) (i + 1)))), (0, .ref (g 0)), (1, .int (nI f))]) S.1 S.2.1 dX1_count_36 hl (k := 3) rfl (nI_1 _) (by decide) rfl (fun ls hl => ?_)
      refine lv_goto (tgt := 14) S.1 S.2.1 dX1_count_39 (by decide) ?_
      exact ih (n - 1) (by omega) (i + 1) (by omega) ls (lv_sub hl [2, 3, 1, 0] rfl)
end QM2
set_option maxHeartbeats 4000000 in
set_option maxRecDepth 100000 in
theorem met_mcount (l : Launch) (dC : Nat → ClassId) (dI : Nat → Nat → Nat) (dA : Nat → ClassId) (g : Nat → Nat) (a : qa_S) (x : Int32) : Met l yX1_count (ws_ yX1_count cX1_count 4 (some .int)) ({ frames := 1, cells := 0, slots := 0, locals := 21 }) (qm_Pc g dA dC dI a [.int x]) (vp_Si (fun r => r = qa_count a x)) 0 0 (fun _ => False) := by
  refine qm_met (by decide) rfl (Nat.le_of_ble_eq_true rfl) ?_
  intro p e s m below meth c ls S hr hlocks hP hK hl
  have hR : qf_RM ({ frames := 1, cells := 0, slots := 0, locals := 21 }) 1 21 := ⟨Nat.le_refl _, Nat.le_refl _⟩
  have hl : lv_has ls 4 [(0, .ref (g 0)), (1, .int x)] := hl
  have hS : va_S (qm_A g) s.heap s.heap [] := va_S.rf
  refine lv_aload_n S.1 S.2.1 dX1_count_0 rfl (lv_at hl 0 rfl) ?_
  refine lv_iload_n S.1 S.2.1 dX1_count_1 rfl (lv_at hl 1 rfl) ?_
  refine mc_isFilter S hK hP (hR.le (by decide) (by decide)) hl.1 (Nat.le_of_ble_eq_true rfl) dX1_count_2 ?_
  refine qf_ifne (tgt := 10) S.1 S.2.1 dX1_count_5 (by decide) (fun h1 => ?_) (fun h1 => ?_)
  · have h1 := of_decide_eq_true h1
    obtain ⟨f, hf, rfl⟩ := qa_ex h1
    have es : qa_count a (nI f) = nI (qa_H a f) := qa_on_f hf _ _
    refine lv_iconst (v := nI 0) S.1 S.2.1 dX1_count_10 (by decide) ?_
    refine lv_istore_n (lv' := [(2, .int (nI 0)), (0, .ref (g 0)), (1, .int (nI f))]) S.1 S.2.1 dX1_count_11 rfl hl (by decide) rfl (fun ls hl => ?_)
    refine lv_iconst (v := nI 0) S.1 S.2.1 dX1_count_12 (by decide) ?_
    refine lv_istore_n (lv' := [(3, .int (nI 0)), (2, .int (nI 0)), (0, .ref (g 0)), (1, .int (nI f))]) S.1 S.2.1 dX1_count_13 rfl hl (by decide) rfl (fun ls hl => ?_)
    refine mn_loop S hK hf hR hP (fun ls hl => ?_) 256 0 rfl ls (lv_sub hl [2, 3, 1, 0] rfl)
    refine lv_iload_n S.1 S.2.1 dX1_count_42 rfl (lv_at hl 1 rfl) ?_
    exact W.iret S.1 S.2.1 hr (fun t ht hW => ⟨_, rfl, es.symm, ht⟩) (fun _ h => by cases h) dX1_count_43
  · have h1 := of_decide_eq_false h1
    refine lv_iconst (v := (-1)) S.1 S.2.1 dX1_count_8 (by decide) ?_
    exact W.iret S.1 S.2.1 hr (fun t ht hW => ⟨_, rfl, (qa_on_n h1 _ _).symm, ht⟩) (fun _ h => by cases h) dX1_count_9
section QM3
variable {p : Program} {l : Launch} {e : Env} {R : Room} {s : State} {m : MethodId} {args : Array Value} {below : List Frame} {meth : Method} {c : Code} {H H0 : Heap} {locs : List Loc} {cells slots : Nat} {Q : State → Prop} {cc : ByteArray} {pc nL : Nat} {ls : Array Slot} {rest : List Value} {g : Nat → Nat} {dC : Nat → ClassId} {dI : Nat → Nat → Nat} {dA : Nat → ClassId} {a : qa_S} {f : Nat}
theorem mc_count {x : Int32} (S : CallFix p m c cc nL s args lw_all RX1) (hK : va_K (dC, dI) qf_cl (qm_tys dA) s) (hP : va_P (dC, dI) qf_cl (qm_w g dA a) H)  (hR : qf_RM R 2 (8 + (4 + 11) + 21)) (hsz : ls.size = nL) (hroom : (rest.map fun v => v.category).sum ≤ 8) (hdg : decode cc pc = .ok (.invokevirtual 20, 3)) (kk : W p l e R s m args below meth c H locs 0 0 Q (F0 m (pc + 3) ls (.int (qa_count a x) :: rest))) : W p l e R s m args below meth c H locs 0 0 Q (F0 m pc ls (.int x :: .ref (g 0) :: rest)) :=
  qm_callR S hK hP (met_mcount l dC dI dA g a x) (lw_V q207 q208 q209 q22 q210) rfl rfl (by decide +kernel) hR (n := 1) rfl hsz hroom hdg ⟨Nat.zero_le _, Nat.zero_le _⟩ (As := [.int x]) rfl (fun r hr => by rw [hr]; exact kk)
end QM3
set_option maxHeartbeats 4000000 in
set_option maxRecDepth 100000 in
theorem met_madd (l : Launch) (dC : Nat → ClassId) (dI : Nat → Nat → Nat) (dA : Nat → ClassId) (g : Nat → Nat) (a : qa_S) (x z : Int32) (hg : qm_dj g) (hok : qm_ok a) : Met l yX1_add (ws_ yX1_add cX1_add 4 (some .int)) ({ frames := 2, cells := 0, slots := 0, locals := 44 }) (qm_Pc g dA dC dI a [.int x, .int z]) (va_Qi (fun r a1 => r = (qa_add a x z).1 ∧ a1 = (qa_add a x z).2) (qm_Bt g dA dC dI) (qm_A g)) 0 0 (qm_A g) := by
  refine qm_met (by decide) rfl (Nat.le_of_ble_eq_true rfl) ?_
  intro p e s m below meth c ls S hr hlocks hP hK hl
  have hR : qf_RM ({ frames := 2, cells := 0, slots := 0, locals := 44 }) 2 44 := ⟨Nat.le_refl _, Nat.le_refl _⟩
  have hl : lv_has ls 4 [(0, .ref (g 0)), (1, .int x), (2, .int z)] := hl
  have hS : va_S (qm_A g) s.heap s.heap [] := va_S.rf
  refine lv_aload_n S.1 S.2.1 dX1_add_0 rfl (lv_at hl 0 rfl) ?_
  refine lv_iload_n S.1 S.2.1 dX1_add_1 rfl (lv_at hl 1 rfl) ?_
  refine mc_isFilter S hK hP (hR.le (by decide) (by decide)) hl.1 (Nat.le_of_ble_eq_true rfl) dX1_add_2 ?_
  refine qf_ifne (tgt := 10) S.1 S.2.1 dX1_add_5 (by decide) (fun h1 => ?_) (fun h1 => ?_)
  · have h1 := of_decide_eq_true h1
    obtain ⟨f, hf, rfl⟩ := qa_ex h1
    have es : qa_add a (nI f) z = qa_addF a (qf_hash z) f := qa_on_f hf _ _
    obtain ⟨hB, hH⟩ := hok f hf
    have hHs : qf_sm (a.2 f) 256 < 64 := hH
    have h64 := (qf_bk_64 hB).2
    have h8 := (qf_bk_64 hB).1
    refine lv_aload_n S.1 S.2.1 dX1_add_10 rfl (lv_at hl 0 rfl) ?_
    refine lv_iload_n S.1 S.2.1 dX1_add_11 rfl (lv_at hl 1 rfl) ?_
    refine mc_count S hK hP (hR.le (by decide) (by decide)) hl.1 (Nat.le_of_ble_eq_true rfl) dX1_add_12 ?_
    refine qf_top (qa_on_f (f := f) hf (fun f => nI (qa_H a f)) (-1)) ?_
    refine lv_aload_n S.1 S.2.1 dX1_add_15 rfl (lv_at hl 0 rfl) ?_
    refine mg_Z S hK hP dX1_add_16 ?_
    refine lv_iload_n S.1 S.2.1 dX1_add_19 rfl (lv_at hl 1 rfl) ?_
    refine ml_Z S hK hP hf dX1_add_20 ?_
    refine lv_iconst (v := nI 1) S.1 S.2.1 dX1_add_21 (by decide) ?_
    refine lv_isub S.1 S.2.1 dX1_add_22 ?_
    refine qf_top (qn_sub (by omega)) ?_
    refine qf_icmplt (tgt := 29) S.1 S.2.1 (by omega) (by omega) dX1_add_23 (by decide) (fun h2 => ?_) (fun h2 => ?_)
    · refine lv_sipush (v := nI 256) S.1 S.2.1 dX1_add_29 (by decide) ?_
      refine lv_iload_n S.1 S.2.1 dX1_add_32 rfl (lv_at hl 1 rfl) ?_
      refine lv_imul S.1 S.2.1 dX1_add_33 ?_
      refine qf_top (pk_mul _ _) ?_
      refine lv_aload_n S.1 S.2.1 dX1_add_34 rfl (lv_at hl 0 rfl) ?_
      refine lv_iload_n S.1 S.2.1 dX1_add_35 rfl (lv_at hl 2 rfl) ?_
      refine mc_printOf S hK hP (hR.le (by decide) (by decide)) hl.1 (Nat.le_of_ble_eq_true rfl) dX1_add_36 ?_
      refine lv_iadd S.1 S.2.1 dX1_add_39 ?_
      refine qf_top (nI_add _ _) ?_
      refine lv_istore_n (lv' := [(3, .int (nI (256 * f + qf_hash z))), (0, .ref (g 0)), (1, .int (nI f)), (2, .int z)]) S.1 S.2.1 dX1_add_40 rfl hl (by decide) rfl (fun ls hl => ?_)
      refine lv_aload_n S.1 S.2.1 dX1_add_41 rfl (lv_at hl 1 rfl) ?_
      refine mg_O S hK hP dX1_add_42 ?_
      refine lv_iload_n S.1 S.2.1 dX1_add_45 rfl (lv_at hl 0 rfl) ?_
      refine lv_dup2_11 S.1 S.2.1 dX1_add_46 rfl rfl ?_
      refine ml_O (f := f) (x := qf_hash z) S hK hP rfl hf (qf_hash_lt z) dX1_add_47 ?_
      refine lv_iconst (v := nI 1) S.1 S.2.1 dX1_add_48 (by decide) ?_
      refine lv_iadd S.1 S.2.1 dX1_add_49 ?_
      refine qf_top (nI_add _ _) ?_
      refine ms_O (f := f) (x := qf_hash z) (v := (a.2 f (qf_hash z)) + 1) S hK hP hg hS rfl rfl hf (qf_hash_lt z) dX1_add_50 (fun H locs hP hS => ?_)
      refine lv_aload_n S.1 S.2.1 dX1_add_51 rfl (lv_at hl 1 rfl) ?_
      refine mg_O S hK hP dX1_add_52 ?_
      refine lv_iload_n S.1 S.2.1 dX1_add_55 rfl (lv_at hl 0 rfl) ?_
      refine ml_O (f := f) (x := qf_hash z) S hK hP rfl hf (qf_hash_lt z) dX1_add_56 ?_
      exact W.iret S.1 S.2.1 hr (fun t ht hW => ⟨⟨_, (qa_set a f (a.1 f) (fun p => a.2 f p + if qf_hash z = p then 1 else 0)), rfl, by rw [es, qa_addF, if_neg (by omega)]; exact ⟨by show nI (va_up a.2 f (va_up (a.2 f) (qf_hash z) (a.2 f (qf_hash z) + 1)) f (qf_hash z)) = nI (a.2 f (qf_hash z) + 1); rw [qf_up_s, qf_up_s], rfl⟩, by unfold qm_Bt; rw [ht]; exact qm_ext hP (fun f1 p1 _ => by show va_up a.2 f (va_up (a.2 f) (qf_hash z) (a.2 f (qf_hash z) + 1)) f1 p1 = va_up a.2 f (fun p => a.2 f p + if qf_hash z = p then 1 else 0) f1 p1; by_cases e1 : f1 = f; (· rw [e1, qf_up_s, qf_up_s]; by_cases e2 : p1 = qf_hash z; (· rw [e2, qf_up_s, if_pos rfl]); (· rw [qf_up_n _ _ e2, if_neg (fun r => e2 r.symm)]; rfl)); (· rw [qf_up_n _ _ e1, qf_up_n _ _ e1])) (fun f1 => by show a.1 f1 = va_up a.1 f (a.1 f) f1; by_cases e1 : f1 = f; (· rw [e1, qf_up_s]); (· rw [qf_up_n _ _ e1]))⟩, hS.F ht⟩) hS.2.2 dX1_add_57
    · refine lv_bipush (v := (-2)) S.1 S.2.1 dX1_add_26 (by decide) ?_
      exact W.iret S.1 S.2.1 hr (fun t ht hW => ⟨⟨_, a, rfl, by rw [es, qa_addF, if_pos h2]; exact ⟨rfl, rfl⟩, by unfold qm_Bt; rw [ht]; exact hP⟩, hS.F ht⟩) hS.2.2 dX1_add_28
  · have h1 := of_decide_eq_false h1
    refine lv_iconst (v := (-1)) S.1 S.2.1 dX1_add_8 (by decide) ?_
    exact W.iret S.1 S.2.1 hr (fun t ht hW => ⟨⟨_, a, rfl, by rw [show qa_add a x z = (-1, a) from qa_on_n h1 _ _]; exact ⟨rfl, rfl⟩, by unfold qm_Bt; rw [ht]; exact hP⟩, hS.F ht⟩) hS.2.2 dX1_add_9
set_option maxHeartbeats 4000000 in
set_option maxRecDepth 100000 in
theorem met_mremove (l : Launch) (dC : Nat → ClassId) (dI : Nat → Nat → Nat) (dA : Nat → ClassId) (g : Nat → Nat) (a : qa_S) (x z : Int32) (hg : qm_dj g) (hok : qm_ok a) : Met l yX1_remove (ws_ yX1_remove cX1_remove 4 (some .int)) ({ frames := 1, cells := 0, slots := 0, locals := 21 }) (qm_Pc g dA dC dI a [.int x, .int z]) (va_Qi (fun r a1 => r = (qa_remove a x z).1 ∧ a1 = (qa_remove a x z).2) (qm_Bt g dA dC dI) (qm_A g)) 0 0 (qm_A g) := by
  refine qm_met (by decide) rfl (Nat.le_of_ble_eq_true rfl) ?_
  intro p e s m below meth c ls S hr hlocks hP hK hl
  have hR : qf_RM ({ frames := 1, cells := 0, slots := 0, locals := 21 }) 1 21 := ⟨Nat.le_refl _, Nat.le_refl _⟩
  have hl : lv_has ls 4 [(0, .ref (g 0)), (1, .int x), (2, .int z)] := hl
  have hS : va_S (qm_A g) s.heap s.heap [] := va_S.rf
  refine lv_aload_n S.1 S.2.1 dX1_remove_0 rfl (lv_at hl 0 rfl) ?_
  refine lv_iload_n S.1 S.2.1 dX1_remove_1 rfl (lv_at hl 1 rfl) ?_
  refine mc_isFilter S hK hP (hR.le (by decide) (by decide)) hl.1 (Nat.le_of_ble_eq_true rfl) dX1_remove_2 ?_
  refine qf_ifne (tgt := 10) S.1 S.2.1 dX1_remove_5 (by decide) (fun h1 => ?_) (fun h1 => ?_)
  · have h1 := of_decide_eq_true h1
    obtain ⟨f, hf, rfl⟩ := qa_ex h1
    have es : qa_remove a (nI f) z = qa_removeF a (qf_hash z) f := qa_on_f hf _ _
    obtain ⟨hB, hH⟩ := hok f hf
    have hHs : qf_sm (a.2 f) 256 < 64 := hH
    have h64 := (qf_bk_64 hB).2
    have h8 := (qf_bk_64 hB).1
    have hle := qf_sm_le (a.2 f) (qf_hash_lt z)
    refine lv_sipush (v := nI 256) S.1 S.2.1 dX1_remove_10 (by decide) ?_
    refine lv_iload_n S.1 S.2.1 dX1_remove_13 rfl (lv_at hl 1 rfl) ?_
    refine lv_imul S.1 S.2.1 dX1_remove_14 ?_
    refine qf_top (pk_mul _ _) ?_
    refine lv_aload_n S.1 S.2.1 dX1_remove_15 rfl (lv_at hl 0 rfl) ?_
    refine lv_iload_n S.1 S.2.1 dX1_remove_16 rfl (lv_at hl 2 rfl) ?_
    refine mc_printOf S hK hP (hR.le (by decide) (by decide)) hl.1 (Nat.le_of_ble_eq_true rfl) dX1_remove_17 ?_
    refine lv_iadd S.1 S.2.1 dX1_remove_20 ?_
    refine qf_top (nI_add _ _) ?_
    refine lv_istore_n (lv' := [(3, .int (nI (256 * f + qf_hash z))), (0, .ref (g 0)), (1, .int (nI f)), (2, .int z)]) S.1 S.2.1 dX1_remove_21 rfl hl (by decide) rfl (fun ls hl => ?_)
    refine lv_aload_n S.1 S.2.1 dX1_remove_22 rfl (lv_at hl 1 rfl) ?_
    refine mg_O S hK hP dX1_remove_23 ?_
    refine lv_iload_n S.1 S.2.1 dX1_remove_26 rfl (lv_at hl 0 rfl) ?_
    refine ml_O (f := f) (x := qf_hash z) S hK hP rfl hf (qf_hash_lt z) dX1_remove_27 ?_
    refine qf_ifneN (tgt := 34) S.1 S.2.1 (by omega) dX1_remove_28 (by decide) (fun h2 => ?_) (fun h2 => ?_)
    · refine lv_aload_n S.1 S.2.1 dX1_remove_34 rfl (lv_at hl 1 rfl) ?_
      refine mg_O S hK hP dX1_remove_35 ?_
      refine lv_iload_n S.1 S.2.1 dX1_remove_38 rfl (lv_at hl 0 rfl) ?_
      refine lv_dup2_11 S.1 S.2.1 dX1_remove_39 rfl rfl ?_
      refine ml_O (f := f) (x := qf_hash z) S hK hP rfl hf (qf_hash_lt z) dX1_remove_40 ?_
      refine lv_iconst (v := nI 1) S.1 S.2.1 dX1_remove_41 (by decide) ?_
      refine lv_isub S.1 S.2.1 dX1_remove_42 ?_
      refine qf_top (qn_sub (by omega)) ?_
      refine ms_O (f := f) (x := qf_hash z) (v := a.2 f (qf_hash z) - 1) S hK hP hg hS rfl rfl hf (qf_hash_lt z) dX1_remove_43 (fun H locs hP hS => ?_)
      refine lv_aload_n S.1 S.2.1 dX1_remove_44 rfl (lv_at hl 1 rfl) ?_
      refine mg_O S hK hP dX1_remove_45 ?_
      refine lv_iload_n S.1 S.2.1 dX1_remove_48 rfl (lv_at hl 0 rfl) ?_
      refine ml_O (f := f) (x := qf_hash z) S hK hP rfl hf (qf_hash_lt z) dX1_remove_49 ?_
      exact W.iret S.1 S.2.1 hr (fun t ht hW => ⟨⟨_, (qa_set a f (a.1 f) (fun p => a.2 f p - if qf_hash z = p then 1 else 0)), rfl, by rw [es, qa_removeF, if_neg h2]; exact ⟨by show nI (va_up a.2 f (va_up (a.2 f) (qf_hash z) (a.2 f (qf_hash z) - 1)) f (qf_hash z)) = nI (a.2 f (qf_hash z) - 1); rw [qf_up_s, qf_up_s], rfl⟩, by unfold qm_Bt; rw [ht]; exact qm_ext hP (fun f1 p1 _ => by show va_up a.2 f (va_up (a.2 f) (qf_hash z) (a.2 f (qf_hash z) - 1)) f1 p1 = va_up a.2 f (fun p => a.2 f p - if qf_hash z = p then 1 else 0) f1 p1; by_cases e1 : f1 = f; (· rw [e1, qf_up_s, qf_up_s]; by_cases e2 : p1 = qf_hash z; (· rw [e2, qf_up_s, if_pos rfl]); (· rw [qf_up_n _ _ e2, if_neg (fun r => e2 r.symm)]; rfl)); (· rw [qf_up_n _ _ e1, qf_up_n _ _ e1])) (fun f1 => by show a.1 f1 = va_up a.1 f (a.1 f) f1; by_cases e1 : f1 = f; (· rw [e1, qf_up_s]); (· rw [qf_up_n _ _ e1]))⟩, hS.F ht⟩) hS.2.2 dX1_remove_50
    · refine lv_bipush (v := (-3)) S.1 S.2.1 dX1_remove_31 (by decide) ?_
      exact W.iret S.1 S.2.1 hr (fun t ht hW => ⟨⟨_, a, rfl, by rw [es, qa_removeF, if_pos h2]; exact ⟨rfl, rfl⟩, by unfold qm_Bt; rw [ht]; exact hP⟩, hS.F ht⟩) hS.2.2 dX1_remove_33
  · have h1 := of_decide_eq_false h1
    refine lv_iconst (v := (-1)) S.1 S.2.1 dX1_remove_8 (by decide) ?_
    exact W.iret S.1 S.2.1 hr (fun t ht hW => ⟨⟨_, a, rfl, by rw [show qa_remove a x z = (-1, a) from qa_on_n h1 _ _]; exact ⟨rfl, rfl⟩, by unfold qm_Bt; rw [ht]; exact hP⟩, hS.F ht⟩) hS.2.2 dX1_remove_9
set_option maxHeartbeats 4000000 in
set_option maxRecDepth 100000 in
theorem met_mmaybe (l : Launch) (dC : Nat → ClassId) (dI : Nat → Nat → Nat) (dA : Nat → ClassId) (g : Nat → Nat) (a : qa_S) (x z : Int32) (hok : qm_ok a) : Met l yX1_maybe (ws_ yX1_maybe cX1_maybe 4 (some .boolean)) ({ frames := 1, cells := 0, slots := 0, locals := 21 }) (qm_Pc g dA dC dI a [.int x, .int z]) (vp_Si (fun r => r = qa_maybe a x z)) 0 0 (fun _ => False) := by
  refine qm_met (by decide) rfl (Nat.le_of_ble_eq_true rfl) ?_
  intro p e s m below meth c ls S hr hlocks hP hK hl
  have hR : qf_RM ({ frames := 1, cells := 0, slots := 0, locals := 21 }) 1 21 := ⟨Nat.le_refl _, Nat.le_refl _⟩
  have hl : lv_has ls 4 [(0, .ref (g 0)), (1, .int x), (2, .int z)] := hl
  have hS : va_S (qm_A g) s.heap s.heap [] := va_S.rf
  refine lv_aload_n S.1 S.2.1 dX1_maybe_0 rfl (lv_at hl 0 rfl) ?_
  refine lv_iload_n S.1 S.2.1 dX1_maybe_1 rfl (lv_at hl 1 rfl) ?_
  refine mc_isFilter S hK hP (hR.le (by decide) (by decide)) hl.1 (Nat.le_of_ble_eq_true rfl) dX1_maybe_2 ?_
  refine qf_ifne (tgt := 10) S.1 S.2.1 dX1_maybe_5 (by decide) (fun h1 => ?_) (fun h1 => ?_)
  · have h1 := of_decide_eq_true h1
    obtain ⟨f, hf, rfl⟩ := qa_ex h1
    have es : qa_maybe a (nI f) z = qf_b (decide (0 < a.2 f (qf_hash z))) := qa_on_f hf _ _
    obtain ⟨hB, hH⟩ := hok f hf
    have hHs : qf_sm (a.2 f) 256 < 64 := hH
    have h64 := (qf_bk_64 hB).2
    have h8 := (qf_bk_64 hB).1
    have hle := qf_sm_le (a.2 f) (qf_hash_lt z)
    refine lv_sipush (v := nI 256) S.1 S.2.1 dX1_maybe_10 (by decide) ?_
    refine lv_iload_n S.1 S.2.1 dX1_maybe_13 rfl (lv_at hl 1 rfl) ?_
    refine lv_imul S.1 S.2.1 dX1_maybe_14 ?_
    refine qf_top (pk_mul _ _) ?_
    refine lv_aload_n S.1 S.2.1 dX1_maybe_15 rfl (lv_at hl 0 rfl) ?_
    refine lv_iload_n S.1 S.2.1 dX1_maybe_16 rfl (lv_at hl 2 rfl) ?_
    refine mc_printOf S hK hP (hR.le (by decide) (by decide)) hl.1 (Nat.le_of_ble_eq_true rfl) dX1_maybe_17 ?_
    refine lv_iadd S.1 S.2.1 dX1_maybe_20 ?_
    refine qf_top (nI_add _ _) ?_
    refine lv_istore_n (lv' := [(3, .int (nI (256 * f + qf_hash z))), (0, .ref (g 0)), (1, .int (nI f)), (2, .int z)]) S.1 S.2.1 dX1_maybe_21 rfl hl (by decide) rfl (fun ls hl => ?_)
    refine lv_aload_n S.1 S.2.1 dX1_maybe_22 rfl (lv_at hl 1 rfl) ?_
    refine mg_O S hK hP dX1_maybe_23 ?_
    refine lv_iload_n S.1 S.2.1 dX1_maybe_26 rfl (lv_at hl 0 rfl) ?_
    refine ml_O (f := f) (x := qf_hash z) S hK hP rfl hf (qf_hash_lt z) dX1_maybe_27 ?_
    refine qf_ifleN (tgt := 35) S.1 S.2.1 (by omega) dX1_maybe_28 (by decide) (fun h2 => ?_) (fun h2 => ?_)
    · refine lv_iconst (v := qf_b false) S.1 S.2.1 dX1_maybe_35 (by decide) ?_
      exact W.zret S.1 S.2.1 hr rfl (fun t ht hW => ⟨_, rfl, by rw [es, decide_eq_false (by omega)], ht⟩) (fun _ h => by cases h) dX1_maybe_36
    · refine lv_iconst (v := qf_b true) S.1 S.2.1 dX1_maybe_31 (by decide) ?_
      refine lv_goto (tgt := 36) S.1 S.2.1 dX1_maybe_32 (by decide) ?_
      exact W.zret S.1 S.2.1 hr rfl (fun t ht hW => ⟨_, rfl, by rw [es, decide_eq_true h2], ht⟩) (fun _ h => by cases h) dX1_maybe_36
  · have h1 := of_decide_eq_false h1
    refine lv_iconst (v := qf_b false) S.1 S.2.1 dX1_maybe_8 (by decide) ?_
    exact W.zret S.1 S.2.1 hr rfl (fun t ht hW => ⟨_, rfl, (qa_on_n h1 _ _).symm, ht⟩) (fun _ h => by cases h) dX1_maybe_9
set_option maxHeartbeats 4000000 in
set_option maxRecDepth 100000 in
theorem met_mtimes (l : Launch) (dC : Nat → ClassId) (dI : Nat → Nat → Nat) (dA : Nat → ClassId) (g : Nat → Nat) (a : qa_S) (x z : Int32) : Met l yX1_times (ws_ yX1_times cX1_times 3 (some .int)) ({ frames := 1, cells := 0, slots := 0, locals := 21 }) (qm_Pc g dA dC dI a [.int x, .int z]) (vp_Si (fun r => r = qa_times a x z)) 0 0 (fun _ => False) := by
  refine qm_met (by decide) rfl (Nat.le_of_ble_eq_true rfl) ?_
  intro p e s m below meth c ls S hr hlocks hP hK hl
  have hR : qf_RM ({ frames := 1, cells := 0, slots := 0, locals := 21 }) 1 21 := ⟨Nat.le_refl _, Nat.le_refl _⟩
  have hl : lv_has ls 3 [(0, .ref (g 0)), (1, .int x), (2, .int z)] := hl
  have hS : va_S (qm_A g) s.heap s.heap [] := va_S.rf
  refine lv_aload_n S.1 S.2.1 dX1_times_0 rfl (lv_at hl 0 rfl) ?_
  refine lv_iload_n S.1 S.2.1 dX1_times_1 rfl (lv_at hl 1 rfl) ?_
  refine mc_isFilter S hK hP (hR.le (by decide) (by decide)) hl.1 (Nat.le_of_ble_eq_true rfl) dX1_times_2 ?_
  refine qf_ifeq (tgt := 34) S.1 S.2.1 dX1_times_5 (by decide) (fun h1 => ?_) (fun h1 => ?_)
  · have h1 := of_decide_eq_false h1
    refine lv_iconst (v := (-1)) S.1 S.2.1 dX1_times_34 (by decide) ?_
    exact W.iret S.1 S.2.1 hr (fun t ht hW => ⟨_, rfl, (qa_on_n h1 _ _).symm, ht⟩) (fun _ h => by cases h) dX1_times_35
  · have h1 := of_decide_eq_true h1
    obtain ⟨f, hf, rfl⟩ := qa_ex h1
    have es : qa_times a (nI f) z = (if ¬ z < 0 ∧ z ≤ 255 then nI (a.2 f z.toNatClampNeg) else -1) := qa_on_f hf _ _
    refine lv_iload_n S.1 S.2.1 dX1_times_8 rfl (lv_at hl 2 rfl) ?_
    refine lv_if_lt (tgt := 34) S.1 S.2.1 dX1_times_9 (by decide) (fun h2 => ?_) (fun h2 => ?_)
    · refine lv_iconst (v := (-1)) S.1 S.2.1 dX1_times_34 (by decide) ?_
      exact W.iret S.1 S.2.1 hr (fun t ht hW => ⟨_, rfl, by rw [es, if_neg (fun r => r.1 h2)], ht⟩) (fun _ h => by cases h) dX1_times_35
    · refine lv_iload_n S.1 S.2.1 dX1_times_12 rfl (lv_at hl 2 rfl) ?_
      refine lv_sipush (v := 255) S.1 S.2.1 dX1_times_13 (by decide) ?_
      refine lv_icmp_gt (tgt := 34) S.1 S.2.1 dX1_times_16 (by decide) (fun h3 => ?_) (fun h3 => ?_)
      · refine lv_iconst (v := (-1)) S.1 S.2.1 dX1_times_34 (by decide) ?_
        exact W.iret S.1 S.2.1 hr (fun t ht hW => ⟨_, rfl, by rw [es, if_neg (fun r => Int32.not_lt.mpr r.2 h3)], ht⟩) (fun _ h => by cases h) dX1_times_35
      · have h3 := Int32.not_lt.mp h3
        obtain ⟨y, hy, rfl⟩ := nI_of2 (M := 255) (n := 255) (by decide) h2 h3
        refine lv_aload_n S.1 S.2.1 dX1_times_19 rfl (lv_at hl 0 rfl) ?_
        refine mg_O S hK hP dX1_times_20 ?_
        refine lv_sipush (v := nI 256) S.1 S.2.1 dX1_times_23 (by decide) ?_
        refine lv_iload_n S.1 S.2.1 dX1_times_26 rfl (lv_at hl 1 rfl) ?_
        refine lv_imul S.1 S.2.1 dX1_times_27 ?_
        refine qf_top (pk_mul _ _) ?_
        refine lv_iload_n S.1 S.2.1 dX1_times_28 rfl (lv_at hl 2 rfl) ?_
        refine lv_iadd S.1 S.2.1 dX1_times_29 ?_
        refine qf_top (nI_add _ _) ?_
        refine ml_O (f := f) (x := y) S hK hP rfl hf (by omega) dX1_times_30 ?_
        refine lv_goto (tgt := 35) S.1 S.2.1 dX1_times_31 (by decide) ?_
        exact W.iret S.1 S.2.1 hr (fun t ht hW => ⟨_, rfl, by rw [es, if_pos ⟨h2, h3⟩, nI_clamp (by omega)], ht⟩) (fun _ h => by cases h) dX1_times_35
set_option maxHeartbeats 4000000 in
set_option maxRecDepth 100000 in
theorem met_msize (l : Launch) (dC : Nat → ClassId) (dI : Nat → Nat → Nat) (dA : Nat → ClassId) (g : Nat → Nat) (a : qa_S) (x : Int32) : Met l yX1_size (ws_ yX1_size cX1_size 2 (some .int)) ({ frames := 1, cells := 0, slots := 0, locals := 21 }) (qm_Pc g dA dC dI a [.int x]) (vp_Si (fun r => r = qa_size a x)) 0 0 (fun _ => False) := by
  refine qm_met (by decide) rfl (Nat.le_of_ble_eq_true rfl) ?_
  intro p e s m below meth c ls S hr hlocks hP hK hl
  have hR : qf_RM ({ frames := 1, cells := 0, slots := 0, locals := 21 }) 1 21 := ⟨Nat.le_refl _, Nat.le_refl _⟩
  have hl : lv_has ls 2 [(0, .ref (g 0)), (1, .int x)] := hl
  have hS : va_S (qm_A g) s.heap s.heap [] := va_S.rf
  refine lv_aload_n S.1 S.2.1 dX1_size_0 rfl (lv_at hl 0 rfl) ?_
  refine lv_iload_n S.1 S.2.1 dX1_size_1 rfl (lv_at hl 1 rfl) ?_
  refine mc_isFilter S hK hP (hR.le (by decide) (by decide)) hl.1 (Nat.le_of_ble_eq_true rfl) dX1_size_2 ?_
  refine qf_ifeq (tgt := 17) S.1 S.2.1 dX1_size_5 (by decide) (fun h1 => ?_) (fun h1 => ?_)
  · have h1 := of_decide_eq_false h1
    refine lv_iconst (v := (-1)) S.1 S.2.1 dX1_size_17 (by decide) ?_
    exact W.iret S.1 S.2.1 hr (fun t ht hW => ⟨_, rfl, (qa_on_n h1 _ _).symm, ht⟩) (fun _ h => by cases h) dX1_size_18
  · have h1 := of_decide_eq_true h1
    obtain ⟨f, hf, rfl⟩ := qa_ex h1
    have es : qa_size a (nI f) = nI (2 ^ a.1 f) := qa_on_f hf _ _
    refine lv_aload_n S.1 S.2.1 dX1_size_8 rfl (lv_at hl 0 rfl) ?_
    refine mg_Z S hK hP dX1_size_9 ?_
    refine lv_iload_n S.1 S.2.1 dX1_size_12 rfl (lv_at hl 1 rfl) ?_
    refine ml_Z S hK hP hf dX1_size_13 ?_
    refine lv_goto (tgt := 18) S.1 S.2.1 dX1_size_14 (by decide) ?_
    exact W.iret S.1 S.2.1 hr (fun t ht hW => ⟨_, rfl, es.symm, ht⟩) (fun _ h => by cases h) dX1_size_18
section QM4
variable {p : Program} {l : Launch} {e : Env} {R : Room} {s : State} {m : MethodId} {args : Array Value} {below : List Frame} {meth : Method} {c : Code} {H H0 : Heap} {locs : List Loc} {cells slots : Nat} {Q : State → Prop} {cc : ByteArray} {pc nL : Nat} {ls : Array Slot} {rest : List Value} {g : Nat → Nat} {dC : Nat → ClassId} {dI : Nat → Nat → Nat} {dA : Nat → ClassId} {a : qa_S} {f : Nat}
set_option maxHeartbeats 4000000 in
set_option maxRecDepth 100000 in
theorem mp_loop (S : CallFix p m c cX1_print 5 s args lw_all RX1) (hK : va_K (dC, dI) qf_cl (qm_tys dA) s) (hf : f < 2) (hR : qf_RM R 1 21) (hP : va_P (dC, dI) qf_cl (qm_w g dA a) H) {z : Int32} (k57 : ∀ ls, (∀ q, q < 256 → ¬ (¬ z < 0 ∧ ¬ nI (qf_sm (a.2 f) (q + 1)) ≤ z)) → W p l e R s m args below meth c H locs 0 0 Q (F0 m 57 ls [])) (k50 : ∀ (i : Nat) ls, i < 256 → (¬ z < 0 ∧ ¬ nI (qf_sm (a.2 f) (i + 1)) ≤ z) → (∀ q, q < i → ¬ (¬ z < 0 ∧ ¬ nI (qf_sm (a.2 f) (q + 1)) ≤ z)) → W p l e R s m args below meth c H locs 0 0 Q (F0 m 50 ls [.int (nI i)])) :
    ∀ (n i : Nat), 256 = i + n → (∀ q, q < i → ¬ (¬ z < 0 ∧ ¬ nI (qf_sm (a.2 f) (q + 1)) ≤ z)) → ∀ ls, lv_has ls 5 [(0, .ref (g 0)), (1, .int (nI f)), (2, .int z), (3, .int (nI (qf_sm (a.2 f) i))), (4, .int (nI i))] → W p l e R s m args below meth c H locs 0 0 Q (F0 m 15 ls []) := by
  intro n
  induction n using Nat.strongRecOn with
  | ind n ih =>
    intro i hi hno ls hl
    refine lv_iload S.1 S.2.1 dX1_print_15 (lv_at hl 4 rfl) ?_
    refine lv_sipush (v := nI 256) S.1 S.2.1 dX1_print_17 (by decide) ?_
    refine qf_icmpge (tgt := 57) S.1 S.2.1 (by omega) (by decide) dX1_print_20 (by decide) (fun h1 => ?_) (fun h1 => ?_)
    · exact k57 ls (fun q hq => hno q (by omega))
    · refine lv_iload_n S.1 S.2.1 dX1_print_23 rfl (lv_at hl 3 rfl) ?_
      refine lv_aload_n S.1 S.2.1 dX1_print_24 rfl (lv_at hl 0 rfl) ?_
      refine mg_O S hK hP dX1_print_25 ?_
      refine lv_sipush (v := nI 256) S.1 S.2.1 dX1_print_28 (by decide) ?_
      refine lv_iload_n S.1 S.2.1 dX1_print_31 rfl (lv_at hl 1 rfl) ?_
      refine lv_imul S.1 S.2.1 dX1_print_32 ?_
      refine qf_top (pk_mul _ _) ?_
      refine lv_iload S.1 S.2.1 dX1_print_33 (lv_at hl 4 rfl) ?_
      refine lv_iadd S.1 S.2.1 dX1_print_35 ?_
      refine qf_top (nI_add _ _) ?_
      refine ml_O (f := f) (x := i) S hK hP rfl hf h1 dX1_print_36 ?_
      refine lv_iadd S.1 S.2.1 dX1_print_37 ?_
      refine qf_top (nI_add _ _) ?_
      refine lv_istore_n (lv' := [(3, .int (nI (qf_sm (a.2 f) (i + 1)))), (0, .ref (g 0)), (1, .int (nI f)), (2, .int z), (4, .int (nI i))]) S.1 S.2.1 dX1_print_38 rfl hl (by decide) rfl (fun ls hl => ?_)
      refine lv_iload_n S.1 S.2.1 dX1_print_39 rfl (lv_at hl 3 rfl) ?_
      refine lv_if_lt (tgt := 51) S.1 S.2.1 dX1_print_40 (by decide) (fun h2 => ?_) (fun h2 => ?_)
      · refine lv_iinc (v := nI (i + 1)) (lv' := [(4, .int (nI (i + 1))), (3, .int (nI (qf_sm (a.2 f) (i + 1)))), (0, .ref (g 0)), (1, .int (nI f)), (2, .int z)]) S.1 S.2.1 dX1_print_51 hl (k := 4) rfl (nI_1 _) (by decide) rfl (fun ls hl => ?_)
        refine lv_goto (tgt := 15) S.1 S.2.1 dX1_print_54 (by decide) ?_
        exact ih (n - 1) (by omega) (i + 1) (by omega) (fun q hq => by
        rcases Nat.lt_or_ge q i with r | r
        · exact hno q r
        · have e1 : q = i := by omega
          rw [e1]
          exact fun r => r.1 h2) ls (lv_sub hl [2, 3, 4, 1, 0] rfl)
      · refine lv_iload_n S.1 S.2.1 dX1_print_43 rfl (lv_at hl 3 rfl) ?_
        refine lv_iload_n S.1 S.2.1 dX1_print_44 rfl (lv_at hl 0 rfl) ?_
        refine lv_icmp_ge (tgt := 51) S.1 S.2.1 dX1_print_45 (by decide) (fun h3 => ?_) (fun h3 => ?_)
        · refine lv_iinc (v := nI (i + 1)) (lv' := [(4, .int (nI (i + 1))), (3, .int (nI (qf_sm (a.2 f) (i + 1)))), (0, .ref (g 0)), (1, .int (nI f)), (2, .int z)]) S.1 S.2.1 dX1_print_51 hl (k := 4) rfl (nI_1 _) (by decide) rfl (fun ls hl => ?_)
          refine lv_goto (tgt := 15) S.1 S.2.1 dX1_print_54 (by decide) ?_
          exact ih (n - 1) (by omega) (i + 1) (by omega) (fun q hq => by
        rcases Nat.lt_or_ge q i with r | r
        · exact hno q r
        · have e1 : q = i := by omega
          rw [e1]
          exact fun r => r.2 h3) ls (lv_sub hl [2, 3, 4, 1, 0] rfl)
        · refine lv_iload S.1 S.2.1 dX1_print_48 (lv_at hl 4 rfl) ?_
          exact k50 i ls h1 ⟨h2, h3⟩ hno
end QM4
set_option maxHeartbeats 4000000 in
set_option maxRecDepth 100000 in
theorem met_mprint (l : Launch) (dC : Nat → ClassId) (dI : Nat → Nat → Nat) (dA : Nat → ClassId) (g : Nat → Nat) (a : qa_S) (x z : Int32) (hok : qm_ok a) : Met l yX1_print (ws_ yX1_print cX1_print 5 (some .int)) ({ frames := 1, cells := 0, slots := 0, locals := 21 }) (qm_Pc g dA dC dI a [.int x, .int z]) (vp_Si (fun r => r = qa_print a x z)) 0 0 (fun _ => False) := by
  refine qm_met (by decide) rfl (Nat.le_of_ble_eq_true rfl) ?_
  intro p e s m below meth c ls S hr hlocks hP hK hl
  have hR : qf_RM ({ frames := 1, cells := 0, slots := 0, locals := 21 }) 1 21 := ⟨Nat.le_refl _, Nat.le_refl _⟩
  have hl : lv_has ls 5 [(0, .ref (g 0)), (1, .int x), (2, .int z)] := hl
  have hS : va_S (qm_A g) s.heap s.heap [] := va_S.rf
  refine lv_aload_n S.1 S.2.1 dX1_print_0 rfl (lv_at hl 0 rfl) ?_
  refine lv_iload_n S.1 S.2.1 dX1_print_1 rfl (lv_at hl 1 rfl) ?_
  refine mc_isFilter S hK hP (hR.le (by decide) (by decide)) hl.1 (Nat.le_of_ble_eq_true rfl) dX1_print_2 ?_
  refine qf_ifne (tgt := 10) S.1 S.2.1 dX1_print_5 (by decide) (fun h1 => ?_) (fun h1 => ?_)
  · have h1 := of_decide_eq_true h1
    obtain ⟨f, hf, rfl⟩ := qa_ex h1
    have es : qa_print a (nI f) z = (if z < 0 ∨ nI (qa_H a f) ≤ z then -3 else nI (qa_kth (a.2 f) z.toNatClampNeg)) := qa_on_f hf _ _
    obtain ⟨hB, hH⟩ := hok f hf
    have hHs : qf_sm (a.2 f) 256 < 64 := hH
    have h64 := (qf_bk_64 hB).2
    have h8 := (qf_bk_64 hB).1
    refine lv_iconst (v := nI 0) S.1 S.2.1 dX1_print_10 (by decide) ?_
    refine lv_istore_n (lv' := [(3, .int (nI 0)), (0, .ref (g 0)), (1, .int (nI f)), (2, .int z)]) S.1 S.2.1 dX1_print_11 rfl hl (by decide) rfl (fun ls hl => ?_)
    refine lv_iconst (v := nI 0) S.1 S.2.1 dX1_print_12 (by decide) ?_
    refine lv_istore (lv' := [(4, .int (nI 0)), (3, .int (nI 0)), (0, .ref (g 0)), (1, .int (nI f)), (2, .int z)]) S.1 S.2.1 dX1_print_13 hl (by decide) rfl (fun ls hl => ?_)
    refine mp_loop S hK hf hR hP (z := z) (fun ls hno => ?_) (fun i ls hi hC hno => ?_) 256 0 rfl (fun q hq => absurd hq (Nat.not_lt_zero _)) ls (lv_sub hl [2, 3, 4, 1, 0] rfl)
    · have hcond : z < 0 ∨ nI (qa_H a f) ≤ z := by
        refine Classical.byContradiction fun r => hno 255 (by decide) ⟨fun q => r (Or.inl q), fun q => r (Or.inr q)⟩
      refine lv_bipush (v := (-3)) S.1 S.2.1 dX1_print_57 (by decide) ?_
      exact W.iret S.1 S.2.1 hr (fun t ht hW => ⟨_, rfl, by rw [es, if_pos hcond], ht⟩) (fun _ h => by cases h) dX1_print_59
    · obtain ⟨k, hk, rfl⟩ := nI_of hC.1
      have hmono := qf_sm_mono (a.2 f) (show i + 1 ≤ 256 by omega)
      have c1 : k < qf_sm (a.2 f) (i + 1) := by
        rcases Nat.lt_or_ge k (qf_sm (a.2 f) (i + 1)) with r | r
        · exact r
        · exact absurd ((nI_leI (by omega) hk).mpr r) hC.2
      have c2 : qf_sm (a.2 f) i ≤ k := by
        cases i with
        | zero => exact Nat.zero_le _
        | succ i =>
          have := hno i (by omega)
          refine Classical.byContradiction fun r => this ⟨hC.1, fun q => r ((nI_leI (by have := qf_sm_mono (a.2 f) (show i + 1 ≤ 256 by omega); omega) hk).mp q)⟩
      exact W.iret S.1 S.2.1 hr (fun t ht hW => ⟨_, rfl, by rw [es, if_neg (fun r => r.elim hC.1 (fun r => absurd ((nI_leI (by omega) hk).mp r) (by show ¬ qf_sm (a.2 f) 256 ≤ k; omega))), nI_clamp hk, qa_kth_eq hi c2 c1], ht⟩) (fun _ h => by cases h) dX1_print_50
  · have h1 := of_decide_eq_false h1
    refine lv_iconst (v := (-1)) S.1 S.2.1 dX1_print_8 (by decide) ?_
    exact W.iret S.1 S.2.1 hr (fun t ht hW => ⟨_, rfl, (qa_on_n h1 _ _).symm, ht⟩) (fun _ h => by cases h) dX1_print_9
set_option maxHeartbeats 4000000 in
set_option maxRecDepth 100000 in
theorem met_mgrow (l : Launch) (dC : Nat → ClassId) (dI : Nat → Nat → Nat) (dA : Nat → ClassId) (g : Nat → Nat) (a : qa_S) (x : Int32) (hg : qm_dj g) (hok : qm_ok a) : Met l yX1_grow (ws_ yX1_grow cX1_grow 2 (some .int)) ({ frames := 1, cells := 0, slots := 0, locals := 21 }) (qm_Pc g dA dC dI a [.int x]) (va_Qi (fun r a1 => r = (qa_grow a x).1 ∧ a1 = (qa_grow a x).2) (qm_Bt g dA dC dI) (qm_A g)) 0 0 (qm_A g) := by
  refine qm_met (by decide) rfl (Nat.le_of_ble_eq_true rfl) ?_
  intro p e s m below meth c ls S hr hlocks hP hK hl
  have hR : qf_RM ({ frames := 1, cells := 0, slots := 0, locals := 21 }) 1 21 := ⟨Nat.le_refl _, Nat.le_refl _⟩
  have hl : lv_has ls 2 [(0, .ref (g 0)), (1, .int x)] := hl
  have hS : va_S (qm_A g) s.heap s.heap [] := va_S.rf
  refine lv_aload_n S.1 S.2.1 dX1_grow_0 rfl (lv_at hl 0 rfl) ?_
  refine lv_iload_n S.1 S.2.1 dX1_grow_1 rfl (lv_at hl 1 rfl) ?_
  refine mc_isFilter S hK hP (hR.le (by decide) (by decide)) hl.1 (Nat.le_of_ble_eq_true rfl) dX1_grow_2 ?_
  refine qf_ifne (tgt := 10) S.1 S.2.1 dX1_grow_5 (by decide) (fun h1 => ?_) (fun h1 => ?_)
  · have h1 := of_decide_eq_true h1
    obtain ⟨f, hf, rfl⟩ := qa_ex h1
    have es : qa_grow a (nI f) = qa_growF a f := qa_on_f hf _ _
    obtain ⟨hB, hH⟩ := hok f hf
    have hHs : qf_sm (a.2 f) 256 < 64 := hH
    have h64 := (qf_bk_64 hB).2
    have h8 := (qf_bk_64 hB).1
    refine lv_aload_n S.1 S.2.1 dX1_grow_10 rfl (lv_at hl 0 rfl) ?_
    refine mg_Z S hK hP dX1_grow_11 ?_
    refine lv_iload_n S.1 S.2.1 dX1_grow_14 rfl (lv_at hl 1 rfl) ?_
    refine ml_Z S hK hP hf dX1_grow_15 ?_
    refine lv_bipush (v := nI 64) S.1 S.2.1 dX1_grow_16 (by decide) ?_
    refine qf_icmpne (tgt := 24) S.1 S.2.1 (by omega) (by decide) dX1_grow_18 (by decide) (fun h2 => ?_) (fun h2 => ?_)
    · refine lv_aload_n S.1 S.2.1 dX1_grow_24 rfl (lv_at hl 0 rfl) ?_
      refine mg_Z S hK hP dX1_grow_25 ?_
      refine lv_iload_n S.1 S.2.1 dX1_grow_28 rfl (lv_at hl 1 rfl) ?_
      refine lv_iconst (v := nI 2) S.1 S.2.1 dX1_grow_29 (by decide) ?_
      refine lv_aload_n S.1 S.2.1 dX1_grow_30 rfl (lv_at hl 0 rfl) ?_
      refine mg_Z S hK hP dX1_grow_31 ?_
      refine lv_iload_n S.1 S.2.1 dX1_grow_34 rfl (lv_at hl 1 rfl) ?_
      refine ml_Z S hK hP hf dX1_grow_35 ?_
      refine lv_imul S.1 S.2.1 dX1_grow_36 ?_
      refine qf_top (pk_mul _ _) ?_
      refine qf_top (congrArg nI (qm_two (a.1 f))) ?_
      refine ms_Z (v := (a.1 f + 1)) S hK hP hg hS rfl hf dX1_grow_37 (fun H locs hP hS => ?_)
      refine lv_aload_n S.1 S.2.1 dX1_grow_38 rfl (lv_at hl 0 rfl) ?_
      refine mg_Z S hK hP dX1_grow_39 ?_
      refine lv_iload_n S.1 S.2.1 dX1_grow_42 rfl (lv_at hl 1 rfl) ?_
      refine ml_Z S hK hP hf dX1_grow_43 ?_
      exact W.iret S.1 S.2.1 hr (fun t ht hW => ⟨⟨_, (qa_set a f (a.1 f + 1) (a.2 f)), rfl, by rw [es, qa_growF, if_neg (fun r => h2 (by rw [r]))]; exact ⟨by show nI (2 ^ va_up a.1 f (a.1 f + 1) f) = nI (2 ^ (a.1 f + 1)); rw [qf_up_s], rfl⟩, by unfold qm_Bt; rw [ht]; exact qm_ext hP (fun f1 p1 _ => by show a.2 f1 p1 = va_up a.2 f (a.2 f) f1 p1; by_cases e1 : f1 = f; (· rw [e1, qf_up_s]); (· rw [qf_up_n _ _ e1])) (fun f1 => rfl)⟩, hS.F ht⟩) hS.2.2 dX1_grow_44
    · refine lv_bipush (v := (-2)) S.1 S.2.1 dX1_grow_21 (by decide) ?_
      exact W.iret S.1 S.2.1 hr (fun t ht hW => ⟨⟨_, a, rfl, by rw [es, qa_growF, if_pos (qm_pow hB (b' := 6) ⟨by decide, by decide⟩ h2)]; exact ⟨rfl, rfl⟩, by unfold qm_Bt; rw [ht]; exact hP⟩, hS.F ht⟩) hS.2.2 dX1_grow_23
  · have h1 := of_decide_eq_false h1
    refine lv_iconst (v := (-1)) S.1 S.2.1 dX1_grow_8 (by decide) ?_
    exact W.iret S.1 S.2.1 hr (fun t ht hW => ⟨⟨_, a, rfl, by rw [show qa_grow a x = (-1, a) from qa_on_n h1 _ _]; exact ⟨rfl, rfl⟩, by unfold qm_Bt; rw [ht]; exact hP⟩, hS.F ht⟩) hS.2.2 dX1_grow_9
set_option maxHeartbeats 4000000 in
set_option maxRecDepth 100000 in
theorem met_mshrink (l : Launch) (dC : Nat → ClassId) (dI : Nat → Nat → Nat) (dA : Nat → ClassId) (g : Nat → Nat) (a : qa_S) (x : Int32) (hg : qm_dj g) (hok : qm_ok a) : Met l yX1_shrink (ws_ yX1_shrink cX1_shrink 2 (some .int)) ({ frames := 2, cells := 0, slots := 0, locals := 44 }) (qm_Pc g dA dC dI a [.int x]) (va_Qi (fun r a1 => r = (qa_shrink a x).1 ∧ a1 = (qa_shrink a x).2) (qm_Bt g dA dC dI) (qm_A g)) 0 0 (qm_A g) := by
  refine qm_met (by decide) rfl (Nat.le_of_ble_eq_true rfl) ?_
  intro p e s m below meth c ls S hr hlocks hP hK hl
  have hR : qf_RM ({ frames := 2, cells := 0, slots := 0, locals := 44 }) 2 44 := ⟨Nat.le_refl _, Nat.le_refl _⟩
  have hl : lv_has ls 2 [(0, .ref (g 0)), (1, .int x)] := hl
  have hS : va_S (qm_A g) s.heap s.heap [] := va_S.rf
  refine lv_aload_n S.1 S.2.1 dX1_shrink_0 rfl (lv_at hl 0 rfl) ?_
  refine lv_iload_n S.1 S.2.1 dX1_shrink_1 rfl (lv_at hl 1 rfl) ?_
  refine mc_isFilter S hK hP (hR.le (by decide) (by decide)) hl.1 (Nat.le_of_ble_eq_true rfl) dX1_shrink_2 ?_
  refine qf_ifne (tgt := 10) S.1 S.2.1 dX1_shrink_5 (by decide) (fun h1 => ?_) (fun h1 => ?_)
  · have h1 := of_decide_eq_true h1
    obtain ⟨f, hf, rfl⟩ := qa_ex h1
    have es : qa_shrink a (nI f) = qa_shrinkF a f := qa_on_f hf _ _
    obtain ⟨hB, hH⟩ := hok f hf
    have hHs : qf_sm (a.2 f) 256 < 64 := hH
    have h64 := (qf_bk_64 hB).2
    have h8 := (qf_bk_64 hB).1
    refine lv_aload_n S.1 S.2.1 dX1_shrink_10 rfl (lv_at hl 0 rfl) ?_
    refine mg_Z S hK hP dX1_shrink_11 ?_
    refine lv_iload_n S.1 S.2.1 dX1_shrink_14 rfl (lv_at hl 1 rfl) ?_
    refine ml_Z S hK hP hf dX1_shrink_15 ?_
    refine lv_bipush (v := nI 8) S.1 S.2.1 dX1_shrink_16 (by decide) ?_
    refine qf_icmpeq (tgt := 39) S.1 S.2.1 (by omega) (by decide) dX1_shrink_18 (by decide) (fun h2 => ?_) (fun h2 => ?_)
    · refine lv_bipush (v := (-3)) S.1 S.2.1 dX1_shrink_39 (by decide) ?_
      exact W.iret S.1 S.2.1 hr (fun t ht hW => ⟨⟨_, a, rfl, by rw [es, qa_shrinkF, if_pos (Or.inl (qm_pow hB (b' := 3) ⟨by decide, by decide⟩ h2))]; exact ⟨rfl, rfl⟩, by unfold qm_Bt; rw [ht]; exact hP⟩, hS.F ht⟩) hS.2.2 dX1_shrink_41
    · refine lv_aload_n S.1 S.2.1 dX1_shrink_21 rfl (lv_at hl 0 rfl) ?_
      refine lv_iload_n S.1 S.2.1 dX1_shrink_22 rfl (lv_at hl 1 rfl) ?_
      refine mc_count S hK hP (hR.le (by decide) (by decide)) hl.1 (Nat.le_of_ble_eq_true rfl) dX1_shrink_23 ?_
      refine qf_top (qa_on_f (f := f) hf (fun f => nI (qa_H a f)) (-1)) ?_
      refine lv_aload_n S.1 S.2.1 dX1_shrink_26 rfl (lv_at hl 0 rfl) ?_
      refine mg_Z S hK hP dX1_shrink_27 ?_
      refine lv_iload_n S.1 S.2.1 dX1_shrink_30 rfl (lv_at hl 1 rfl) ?_
      refine ml_Z S hK hP hf dX1_shrink_31 ?_
      refine lv_iconst (v := nI 2) S.1 S.2.1 dX1_shrink_32 (by decide) ?_
      refine lv_idiv S.1 S.2.1 dX1_shrink_33 (by decide) ?_
      refine lv_iconst (v := nI 1) S.1 S.2.1 dX1_shrink_34 (by decide) ?_
      refine lv_isub S.1 S.2.1 dX1_shrink_35 ?_
      refine qf_top (qn_half hB) ?_
      refine qf_icmple (tgt := 42) S.1 S.2.1 (by omega) (by omega) dX1_shrink_36 (by decide) (fun h3 => ?_) (fun h3 => ?_)
      · refine lv_aload_n S.1 S.2.1 dX1_shrink_42 rfl (lv_at hl 0 rfl) ?_
        refine mg_Z S hK hP dX1_shrink_43 ?_
        refine lv_iload_n S.1 S.2.1 dX1_shrink_46 rfl (lv_at hl 1 rfl) ?_
        refine lv_aload_n S.1 S.2.1 dX1_shrink_47 rfl (lv_at hl 0 rfl) ?_
        refine mg_Z S hK hP dX1_shrink_48 ?_
        refine lv_iload_n S.1 S.2.1 dX1_shrink_51 rfl (lv_at hl 1 rfl) ?_
        refine ml_Z S hK hP hf dX1_shrink_52 ?_
        refine lv_iconst (v := nI 2) S.1 S.2.1 dX1_shrink_53 (by decide) ?_
        refine lv_idiv S.1 S.2.1 dX1_shrink_54 (by decide) ?_
        refine qf_top (qm_half hB) ?_
        refine ms_Z (v := (a.1 f - 1)) S hK hP hg hS rfl hf dX1_shrink_55 (fun H locs hP hS => ?_)
        refine lv_aload_n S.1 S.2.1 dX1_shrink_56 rfl (lv_at hl 0 rfl) ?_
        refine mg_Z S hK hP dX1_shrink_57 ?_
        refine lv_iload_n S.1 S.2.1 dX1_shrink_60 rfl (lv_at hl 1 rfl) ?_
        refine ml_Z S hK hP hf dX1_shrink_61 ?_
        exact W.iret S.1 S.2.1 hr (fun t ht hW => ⟨⟨_, (qa_set a f (a.1 f - 1) (a.2 f)), rfl, by rw [es, qa_shrinkF, if_neg (fun r => r.elim (fun r => h2 (by rw [r])) (fun r => by omega))]; exact ⟨by show nI (2 ^ va_up a.1 f (a.1 f - 1) f) = nI (2 ^ (a.1 f - 1)); rw [qf_up_s], rfl⟩, by unfold qm_Bt; rw [ht]; exact qm_ext hP (fun f1 p1 _ => by show a.2 f1 p1 = va_up a.2 f (a.2 f) f1 p1; by_cases e1 : f1 = f; (· rw [e1, qf_up_s]); (· rw [qf_up_n _ _ e1])) (fun f1 => rfl)⟩, hS.F ht⟩) hS.2.2 dX1_shrink_62
      · refine lv_bipush (v := (-3)) S.1 S.2.1 dX1_shrink_39 (by decide) ?_
        exact W.iret S.1 S.2.1 hr (fun t ht hW => ⟨⟨_, a, rfl, by rw [es, qa_shrinkF, if_pos (Or.inr h3)]; exact ⟨rfl, rfl⟩, by unfold qm_Bt; rw [ht]; exact hP⟩, hS.F ht⟩) hS.2.2 dX1_shrink_41
  · have h1 := of_decide_eq_false h1
    refine lv_iconst (v := (-1)) S.1 S.2.1 dX1_shrink_8 (by decide) ?_
    exact W.iret S.1 S.2.1 hr (fun t ht hW => ⟨⟨_, a, rfl, by rw [show qa_shrink a x = (-1, a) from qa_on_n h1 _ _]; exact ⟨rfl, rfl⟩, by unfold qm_Bt; rw [ht]; exact hP⟩, hS.F ht⟩) hS.2.2 dX1_shrink_9
section QM5
variable {p : Program} {l : Launch} {e : Env} {R : Room} {s : State} {m : MethodId} {args : Array Value} {below : List Frame} {meth : Method} {c : Code} {H H0 : Heap} {locs : List Loc} {cells slots : Nat} {Q : State → Prop} {cc : ByteArray} {pc nL : Nat} {ls : Array Slot} {rest : List Value} {g : Nat → Nat} {dC : Nat → ClassId} {dI : Nat → Nat → Nat} {dA : Nat → ClassId} {a : qa_S} {f : Nat}
set_option maxHeartbeats 4000000 in
set_option maxRecDepth 100000 in
theorem ml_clear (S : CallFix p m c cX1_clear 4 s args lw_all RX1) (hK : va_K (dC, dI) qf_cl (qm_tys dA) s) (hf : f < 2) (hR : qf_RM R 2 44) (hg : qm_dj g) {q2 : Int32} (kk : ∀ (A : qa_S) (H : Heap) (locs : List Loc) (ls : Array Slot), A.1 = a.1 → (∀ q, q < 256 → A.2 f q = 0) → (∀ f1, f1 ≠ f → A.2 f1 = a.2 f1) → va_P (dC, dI) qf_cl (qm_w g dA A) H → va_S (qm_A g) H0 H locs → lv_has ls 4 [(0, .ref (g 0)), (2, .int q2)] → W p l e R s m args below meth c H locs 0 0 Q (F0 m 44 ls [])) :
    ∀ (n i : Nat) (A : qa_S) (H : Heap) (locs : List Loc), 256 = i + n → A.1 = a.1 → (∀ q, q < 256 → A.2 f q = if q < i then 0 else a.2 f q) → (∀ f1, f1 ≠ f → A.2 f1 = a.2 f1) → va_P (dC, dI) qf_cl (qm_w g dA A) H → va_S (qm_A g) H0 H locs → ∀ ls, lv_has ls 4 [(0, .ref (g 0)), (1, .int (nI f)), (2, .int q2), (3, .int (nI i))] → W p l e R s m args below meth c H locs 0 0 Q (F0 m 18 ls []) := by
  intro n
  induction n using Nat.strongRecOn with
  | ind n ih =>
    intro i A H locs hi h2 h3 h4 hP hS ls hl
    refine lv_iload_n S.1 S.2.1 dX1_clear_18 rfl (lv_at hl 3 rfl) ?_
    refine lv_sipush (v := nI 256) S.1 S.2.1 dX1_clear_19 (by decide) ?_
    refine qf_icmpge (tgt := 44) S.1 S.2.1 (by omega) (by decide) dX1_clear_22 (by decide) (fun h1 => ?_) (fun h1 => ?_)
    · exact kk A H locs ls h2 (fun q hq => by rw [h3 q hq, if_pos (by omega)]) h4 hP hS (lv_sub hl [0, 2] rfl)
    · refine lv_aload_n S.1 S.2.1 dX1_clear_25 rfl (lv_at hl 0 rfl) ?_
      refine mg_O S hK hP dX1_clear_26 ?_
      refine lv_sipush (v := nI 256) S.1 S.2.1 dX1_clear_29 (by decide) ?_
      refine lv_iload_n S.1 S.2.1 dX1_clear_32 rfl (lv_at hl 1 rfl) ?_
      refine lv_imul S.1 S.2.1 dX1_clear_33 ?_
      refine qf_top (pk_mul _ _) ?_
      refine lv_iload_n S.1 S.2.1 dX1_clear_34 rfl (lv_at hl 3 rfl) ?_
      refine lv_iadd S.1 S.2.1 dX1_clear_35 ?_
      refine qf_top (nI_add _ _) ?_
      refine lv_iconst (v := nI 0) S.1 S.2.1 dX1_clear_36 (by decide) ?_
      refine ms_O (f := f) (x := i) (v := 0) S hK hP hg hS rfl rfl hf h1 dX1_clear_37 (fun H locs hP hS => ?_)
      refine lv_iinc (v := nI (i + 1)) (lv' := [(3, .int (nI (i + 1))), (0, .ref (g 0)), (1, .int (nI f)), (2, .int q2)]) S.1 S.2.1 dX1_clear_38 hl (k := 3) rfl (nI_1 _) (by decide) rfl (fun ls hl => ?_)
      refine lv_goto (tgt := 18) S.1 S.2.1 dX1_clear_41 (by decide) ?_
      exact ih (n - 1) (by omega) (i + 1) (qm_setO A f i 0) H locs (by omega) h2 (fun q hq => by
        show va_up A.2 f (va_up (A.2 f) i 0) f q = _
        rw [qf_up_s]
        by_cases e1 : q = i
        · rw [e1, qf_up_s, if_pos (by omega)]
        · rw [qf_up_n _ _ e1, h3 q hq]
          by_cases e2 : q < i
          · rw [if_pos e2, if_pos (by omega)]
          · rw [if_neg e2, if_neg (by omega)]) (fun f1 hf1 => by show va_up A.2 f _ f1 = _; rw [qf_up_n _ _ hf1]; exact h4 f1 hf1) hP hS ls (lv_sub hl [1, 2, 3, 0] rfl)
end QM5
set_option maxHeartbeats 4000000 in
set_option maxRecDepth 100000 in
theorem met_mclear (l : Launch) (dC : Nat → ClassId) (dI : Nat → Nat → Nat) (dA : Nat → ClassId) (g : Nat → Nat) (a : qa_S) (x : Int32) (hg : qm_dj g) : Met l yX1_clear (ws_ yX1_clear cX1_clear 4 (some .int)) ({ frames := 2, cells := 0, slots := 0, locals := 44 }) (qm_Pc g dA dC dI a [.int x]) (va_Qi (fun r a1 => r = (qa_clear a x).1 ∧ a1 = (qa_clear a x).2) (qm_Bt g dA dC dI) (qm_A g)) 0 0 (qm_A g) := by
  refine qm_met (by decide) rfl (Nat.le_of_ble_eq_true rfl) ?_
  intro p e s m below meth c ls S hr hlocks hP hK hl
  have hR : qf_RM ({ frames := 2, cells := 0, slots := 0, locals := 44 }) 2 44 := ⟨Nat.le_refl _, Nat.le_refl _⟩
  have hl : lv_has ls 4 [(0, .ref (g 0)), (1, .int x)] := hl
  have hS : va_S (qm_A g) s.heap s.heap [] := va_S.rf
  refine lv_aload_n S.1 S.2.1 dX1_clear_0 rfl (lv_at hl 0 rfl) ?_
  refine lv_iload_n S.1 S.2.1 dX1_clear_1 rfl (lv_at hl 1 rfl) ?_
  refine mc_isFilter S hK hP (hR.le (by decide) (by decide)) hl.1 (Nat.le_of_ble_eq_true rfl) dX1_clear_2 ?_
  refine qf_ifne (tgt := 10) S.1 S.2.1 dX1_clear_5 (by decide) (fun h1 => ?_) (fun h1 => ?_)
  · have h1 := of_decide_eq_true h1
    obtain ⟨f, hf, rfl⟩ := qa_ex h1
    have es : qa_clear a (nI f) = (nI (qa_H a f), qa_set a f (a.1 f) (fun _ => 0)) := qa_on_f hf _ _
    refine lv_aload_n S.1 S.2.1 dX1_clear_10 rfl (lv_at hl 0 rfl) ?_
    refine lv_iload_n S.1 S.2.1 dX1_clear_11 rfl (lv_at hl 1 rfl) ?_
    refine mc_count S hK hP (hR.le (by decide) (by decide)) hl.1 (Nat.le_of_ble_eq_true rfl) dX1_clear_12 ?_
    refine qf_top (qa_on_f (f := f) hf (fun f => nI (qa_H a f)) (-1)) ?_
    refine lv_istore_n (lv' := [(2, .int (nI (qa_H a f))), (0, .ref (g 0)), (1, .int (nI f))]) S.1 S.2.1 dX1_clear_15 rfl hl (by decide) rfl (fun ls hl => ?_)
    refine lv_iconst (v := nI 0) S.1 S.2.1 dX1_clear_16 (by decide) ?_
    refine lv_istore_n (lv' := [(3, .int (nI 0)), (2, .int (nI (qa_H a f))), (0, .ref (g 0)), (1, .int (nI f))]) S.1 S.2.1 dX1_clear_17 rfl hl (by decide) rfl (fun ls hl => ?_)
    refine ml_clear S hK hf hR hg (H0 := s.heap) (a := a) (fun A H locs ls j1 j2 j3 hP hS hl => ?_) 256 0 a s.heap [] rfl rfl (fun q hq => (if_neg (Nat.not_lt_zero _)).symm) (fun _ _ => rfl) hP hS ls (lv_sub hl [2, 3, 1, 0] rfl)
    refine lv_iload_n S.1 S.2.1 dX1_clear_44 rfl (lv_at hl 1 rfl) ?_
    exact W.iret S.1 S.2.1 hr (fun t ht hW => ⟨⟨_, (qa_set a f (a.1 f) (fun _ => 0)), rfl, by rw [es]; exact ⟨rfl, rfl⟩, by unfold qm_Bt; rw [ht]; exact qm_ext hP (fun f1 p1 hp1 => by show A.2 f1 p1 = va_up a.2 f (fun _ => 0) f1 p1; by_cases e1 : f1 = f; (· rw [e1, qf_up_s]; exact j2 p1 hp1); (· rw [qf_up_n _ _ e1, j3 f1 e1])) (fun f1 => by show A.1 f1 = va_up a.1 f (a.1 f) f1; rw [j1]; by_cases e1 : f1 = f; (· rw [e1, qf_up_s]); (· rw [qf_up_n _ _ e1]))⟩, hS.F ht⟩) hS.2.2 dX1_clear_45
  · have h1 := of_decide_eq_false h1
    refine lv_iconst (v := (-1)) S.1 S.2.1 dX1_clear_8 (by decide) ?_
    exact W.iret S.1 S.2.1 hr (fun t ht hW => ⟨⟨_, a, rfl, by rw [show qa_clear a x = (-1, a) from qa_on_n h1 _ _]; exact ⟨rfl, rfl⟩, by unfold qm_Bt; rw [ht]; exact hP⟩, hS.F ht⟩) hS.2.2 dX1_clear_9
def qm_it (T : Nat) : Nat → Nat → Nat
  | 0, b => b
  | n + 1, b => qm_it T n (if 2 ^ b < T + 1 then b + 1 else b)
theorem qm_it3 (T b : Nat) : qm_it T 3 b = qa_gb T b := by
  have p0 : 1 ≤ 2 ^ b := Nat.one_le_two_pow
  have p1 : 1 ≤ 2 ^ (b + 1) := Nat.one_le_two_pow
  have p2 : 1 ≤ 2 ^ (b + 2) := Nat.one_le_two_pow
  unfold qa_gb
  simp only [qm_it]
  by_cases h1 : T ≤ 2 ^ b - 1
  · have c1 : ¬ 2 ^ b < T + 1 := by omega
    simp only [if_pos h1, if_neg c1]
  · have c1 : 2 ^ b < T + 1 := by omega
    simp only [if_neg h1, if_pos c1]
    by_cases h2 : T ≤ 2 ^ (b + 1) - 1
    · have c2 : ¬ 2 ^ (b + 1) < T + 1 := by omega
      simp only [if_pos h2, if_neg c2]
    · have c2 : 2 ^ (b + 1) < T + 1 := by omega
      simp only [if_neg h2, if_pos c2]
      by_cases h3 : T ≤ 2 ^ (b + 2) - 1
      · have c3 : ¬ 2 ^ (b + 1 + 1) < T + 1 := by show ¬ 2 ^ (b + 2) < T + 1; omega
        simp only [if_pos h3, if_neg c3]
      · have c3 : 2 ^ (b + 1 + 1) < T + 1 := by show 2 ^ (b + 2) < T + 1; omega
        simp only [if_neg h3, if_pos c3]
section QM6
variable {p : Program} {l : Launch} {e : Env} {R : Room} {s : State} {m : MethodId} {args : Array Value} {below : List Frame} {meth : Method} {c : Code} {H H0 : Heap} {locs : List Loc} {cells slots : Nat} {Q : State → Prop} {cc : ByteArray} {pc nL : Nat} {ls : Array Slot} {rest : List Value} {g : Nat → Nat} {dC : Nat → ClassId} {dI : Nat → Nat → Nat} {dA : Nat → ClassId} {a : qa_S} {f : Nat}
set_option maxHeartbeats 4000000 in
set_option maxRecDepth 100000 in
theorem mu_loop1 (S : CallFix p m c cX1_pour 4 s args lw_all RX1) (hK : va_K (dC, dI) qf_cl (qm_tys dA) s) (hf : f < 2) (hR : qf_RM R 2 44) (hg : qm_dj g) {T bf : Nat} (hT : T ≤ 63) (kk : ∀ (A : qa_S) (H : Heap) (locs : List Loc) (ls : Array Slot), A.2 = a.2 → (∀ f1, f1 ≠ f → A.1 f1 = a.1 f1) → A.1 f = bf → va_P (dC, dI) qf_cl (qm_w g dA A) H → va_S (qm_A g) H0 H locs → lv_has ls 4 [(0, .ref (g 0)), (1, .int (nI f)), (2, .int (nI T))] → W p l e R s m args below meth c H locs 0 0 Q (F0 m 70 ls [])) :
    ∀ (n k : Nat) (A : qa_S) (H : Heap) (locs : List Loc), 3 = k + n → A.2 = a.2 → A.1 f ≤ 6 → (∀ f1, f1 ≠ f → A.1 f1 = a.1 f1) → qm_it T n (A.1 f) = bf → va_P (dC, dI) qf_cl (qm_w g dA A) H → va_S (qm_A g) H0 H locs → ∀ ls, lv_has ls 4 [(0, .ref (g 0)), (1, .int (nI f)), (2, .int (nI T)), (3, .int (nI k))] → W p l e R s m args below meth c H locs 0 0 Q (F0 m 33 ls []) := by
  intro n
  induction n using Nat.strongRecOn with
  | ind n ih =>
    intro k A H locs hk h2 h3 h4 hbf hP hS ls hl
    have hb6 : 2 ^ A.1 f ≤ 64 := by
      have : 2 ^ A.1 f ≤ 2 ^ 6 := Nat.pow_le_pow_right (by decide) h3
      omega
    refine lv_iload_n S.1 S.2.1 dX1_pour_33 rfl (lv_at hl 3 rfl) ?_
    refine lv_iconst (v := nI 3) S.1 S.2.1 dX1_pour_34 (by decide) ?_
    refine qf_icmpge (tgt := 70) S.1 S.2.1 (by omega) (by decide) dX1_pour_35 (by decide) (fun h1 => ?_) (fun h1 => ?_)
    · have e1 : n = 0 := by omega
      subst e1
      exact kk A H locs ls h2 h4 hbf hP hS (lv_sub hl [0, 1, 2] rfl)
    · refine lv_aload_n S.1 S.2.1 dX1_pour_38 rfl (lv_at hl 0 rfl) ?_
      refine mg_Z S hK hP dX1_pour_39 ?_
      refine lv_iload_n S.1 S.2.1 dX1_pour_42 rfl (lv_at hl 1 rfl) ?_
      refine ml_Z S hK hP hf dX1_pour_43 ?_
      refine lv_iload_n S.1 S.2.1 dX1_pour_44 rfl (lv_at hl 2 rfl) ?_
      refine lv_iconst (v := nI 1) S.1 S.2.1 dX1_pour_45 (by decide) ?_
      refine lv_iadd S.1 S.2.1 dX1_pour_46 ?_
      refine qf_top (nI_add _ _) ?_
      refine qf_icmpge (tgt := 64) S.1 S.2.1 (by omega) (by omega) dX1_pour_47 (by decide) (fun h5 => ?_) (fun h5 => ?_)
      · refine lv_iinc (v := nI (k + 1)) (lv' := [(3, .int (nI (k + 1))), (0, .ref (g 0)), (1, .int (nI f)), (2, .int (nI T))]) S.1 S.2.1 dX1_pour_64 hl (k := 3) rfl (nI_1 _) (by decide) rfl (fun ls hl => ?_)
        refine lv_goto (tgt := 33) S.1 S.2.1 dX1_pour_67 (by decide) ?_
        obtain ⟨n, rfl⟩ : ∃ n1, n = n1 + 1 := ⟨n - 1, by omega⟩
        exact ih n (by omega) (k + 1) A H locs (by omega) h2 h3 h4 (by rw [← hbf]; show _ = qm_it T n (if 2 ^ A.1 f < T + 1 then A.1 f + 1 else A.1 f); rw [if_neg (by omega)]) hP hS ls (lv_sub hl [1, 2, 3, 0] rfl)
      · have hlt6 : A.1 f < 6 := by
          rcases Nat.lt_or_ge (A.1 f) 6 with r | r
          · exact r
          · have e1 : A.1 f = 6 := by omega
            rw [e1] at h5; omega
        refine lv_aload_n S.1 S.2.1 dX1_pour_50 rfl (lv_at hl 0 rfl) ?_
        refine mg_Z S hK hP dX1_pour_51 ?_
        refine lv_iload_n S.1 S.2.1 dX1_pour_54 rfl (lv_at hl 1 rfl) ?_
        refine lv_iconst (v := nI 2) S.1 S.2.1 dX1_pour_55 (by decide) ?_
        refine lv_aload_n S.1 S.2.1 dX1_pour_56 rfl (lv_at hl 0 rfl) ?_
        refine mg_Z S hK hP dX1_pour_57 ?_
        refine lv_iload_n S.1 S.2.1 dX1_pour_60 rfl (lv_at hl 1 rfl) ?_
        refine ml_Z S hK hP hf dX1_pour_61 ?_
        refine lv_imul S.1 S.2.1 dX1_pour_62 ?_
        refine qf_top (pk_mul _ _) ?_
        refine qf_top (congrArg nI (qm_two (A.1 f))) ?_
        refine ms_Z (v := (A.1 f + 1)) S hK hP hg hS rfl hf dX1_pour_63 (fun H locs hP hS => ?_)
        refine lv_iinc (v := nI (k + 1)) (lv' := [(3, .int (nI (k + 1))), (0, .ref (g 0)), (1, .int (nI f)), (2, .int (nI T))]) S.1 S.2.1 dX1_pour_64 hl (k := 3) rfl (nI_1 _) (by decide) rfl (fun ls hl => ?_)
        refine lv_goto (tgt := 33) S.1 S.2.1 dX1_pour_67 (by decide) ?_
        obtain ⟨n, rfl⟩ : ∃ n1, n = n1 + 1 := ⟨n - 1, by omega⟩
        have eA : (qm_setZ A f (A.1 f + 1)).1 f = A.1 f + 1 := qf_up_s _ _ _
        exact ih n (by omega) (k + 1) (qm_setZ A f (A.1 f + 1)) H locs (by omega) h2 (by rw [eA]; omega) (fun f1 hf1 => by show va_up A.1 f _ f1 = _; rw [qf_up_n _ _ hf1]; exact h4 f1 hf1) (by rw [← hbf, eA]; show _ = qm_it T n (if 2 ^ A.1 f < T + 1 then A.1 f + 1 else A.1 f); rw [if_pos h5]) hP hS ls (lv_sub hl [1, 2, 3, 0] rfl)
set_option maxHeartbeats 4000000 in
set_option maxRecDepth 100000 in
theorem mu_loop2 (S : CallFix p m c cX1_pour 4 s args lw_all RX1) (hK : va_K (dC, dI) qf_cl (qm_tys dA) s) (hf : f < 2) (hR : qf_RM R 2 44) (hg : qm_dj g) {q2 : Int32} {bs : Nat → Nat} (kk : ∀ (A : qa_S) (H : Heap) (locs : List Loc) (ls : Array Slot), A.1 = bs → (∀ q, q < 256 → A.2 f q = a.2 f q + a.2 (1 - f) q) → (∀ f1, f1 ≠ f → A.2 f1 = a.2 f1) → va_P (dC, dI) qf_cl (qm_w g dA A) H → va_S (qm_A g) H0 H locs → lv_has ls 4 [(0, .ref (g 0)), (2, .int q2)] → W p l e R s m args below meth c H locs 0 0 Q (F0 m 114 ls [])) :
    ∀ (n i : Nat) (A : qa_S) (H : Heap) (locs : List Loc), 256 = i + n → A.1 = bs → (∀ q, q < 256 → A.2 f q = if q < i then a.2 f q + a.2 (1 - f) q else a.2 f q) → (∀ f1, f1 ≠ f → A.2 f1 = a.2 f1) → va_P (dC, dI) qf_cl (qm_w g dA A) H → va_S (qm_A g) H0 H locs → ∀ ls, lv_has ls 4 [(0, .ref (g 0)), (1, .int (nI f)), (2, .int q2), (3, .int (nI i))] → W p l e R s m args below meth c H locs 0 0 Q (F0 m 72 ls []) := by
  intro n
  induction n using Nat.strongRecOn with
  | ind n ih =>
    intro i A H locs hi h2 h3 h4 hP hS ls hl
    refine lv_iload_n S.1 S.2.1 dX1_pour_72 rfl (lv_at hl 3 rfl) ?_
    refine lv_sipush (v := nI 256) S.1 S.2.1 dX1_pour_73 (by decide) ?_
    refine qf_icmpge (tgt := 114) S.1 S.2.1 (by omega) (by decide) dX1_pour_76 (by decide) (fun h1 => ?_) (fun h1 => ?_)
    · exact kk A H locs ls h2 (fun q hq => by rw [h3 q hq, if_pos (by omega)]) h4 hP hS (lv_sub hl [0, 2] rfl)
    · refine lv_aload_n S.1 S.2.1 dX1_pour_79 rfl (lv_at hl 0 rfl) ?_
      refine mg_O S hK hP dX1_pour_80 ?_
      refine lv_sipush (v := nI 256) S.1 S.2.1 dX1_pour_83 (by decide) ?_
      refine lv_iload_n S.1 S.2.1 dX1_pour_86 rfl (lv_at hl 1 rfl) ?_
      refine lv_imul S.1 S.2.1 dX1_pour_87 ?_
      refine qf_top (pk_mul _ _) ?_
      refine lv_iload_n S.1 S.2.1 dX1_pour_88 rfl (lv_at hl 3 rfl) ?_
      refine lv_iadd S.1 S.2.1 dX1_pour_89 ?_
      refine qf_top (nI_add _ _) ?_
      refine lv_dup2_11 S.1 S.2.1 dX1_pour_90 rfl rfl ?_
      refine ml_O (f := f) (x := i) S hK hP rfl hf h1 dX1_pour_91 ?_
      refine lv_aload_n S.1 S.2.1 dX1_pour_92 rfl (lv_at hl 0 rfl) ?_
      refine mg_O S hK hP dX1_pour_93 ?_
      refine lv_sipush (v := nI 256) S.1 S.2.1 dX1_pour_96 (by decide) ?_
      refine lv_iconst (v := nI 1) S.1 S.2.1 dX1_pour_99 (by decide) ?_
      refine lv_iload_n S.1 S.2.1 dX1_pour_100 rfl (lv_at hl 1 rfl) ?_
      refine lv_isub S.1 S.2.1 dX1_pour_101 ?_
      refine qf_top (qn_sub (a := 1) (b := f) (by omega)) ?_
      refine lv_imul S.1 S.2.1 dX1_pour_102 ?_
      refine qf_top (pk_mul _ _) ?_
      refine lv_iload_n S.1 S.2.1 dX1_pour_103 rfl (lv_at hl 3 rfl) ?_
      refine lv_iadd S.1 S.2.1 dX1_pour_104 ?_
      refine qf_top (nI_add _ _) ?_
      refine ml_O (f := (1 - f)) (x := i) S hK hP rfl (by omega) h1 dX1_pour_105 ?_
      refine lv_iadd S.1 S.2.1 dX1_pour_106 ?_
      refine qf_top (nI_add _ _) ?_
      refine ms_O (f := f) (x := i) (v := (A.2 f i) + (A.2 (1 - f) i)) S hK hP hg hS rfl rfl hf h1 dX1_pour_107 (fun H locs hP hS => ?_)
      refine lv_iinc (v := nI (i + 1)) (lv' := [(3, .int (nI (i + 1))), (0, .ref (g 0)), (1, .int (nI f)), (2, .int q2)]) S.1 S.2.1 dX1_pour_108 hl (k := 3) rfl (nI_1 _) (by decide) rfl (fun ls hl => ?_)
      refine lv_goto (tgt := 72) S.1 S.2.1 dX1_pour_111 (by decide) ?_
      have e9 : 1 - f ≠ f := by omega
      exact ih (n - 1) (by omega) (i + 1) (qm_setO A f i (A.2 f i + A.2 (1 - f) i)) H locs (by omega) h2 (fun q hq => by
        show va_up A.2 f (va_up (A.2 f) i (A.2 f i + A.2 (1 - f) i)) f q = _
        rw [qf_up_s]
        by_cases e1 : q = i
        · rw [e1, qf_up_s, if_pos (by omega), h3 i h1, if_neg (Nat.lt_irrefl _), h4 (1 - f) e9]
        · rw [qf_up_n _ _ e1, h3 q hq]
          by_cases e2 : q < i
          · rw [if_pos e2, if_pos (by omega)]
          · rw [if_neg e2, if_neg (by omega)]) (fun f1 hf1 => by show va_up A.2 f _ f1 = _; rw [qf_up_n _ _ hf1]; exact h4 f1 hf1) hP hS ls (lv_sub hl [1, 2, 3, 0] rfl)
end QM6
set_option maxHeartbeats 4000000 in
set_option maxRecDepth 100000 in
theorem met_mpour (l : Launch) (dC : Nat → ClassId) (dI : Nat → Nat → Nat) (dA : Nat → ClassId) (g : Nat → Nat) (a : qa_S) (x : Int32) (hg : qm_dj g) (hok : qm_ok a) : Met l yX1_pour (ws_ yX1_pour cX1_pour 4 (some .int)) ({ frames := 2, cells := 0, slots := 0, locals := 44 }) (qm_Pc g dA dC dI a [.int x]) (va_Qi (fun r a1 => r = (qa_pour a x).1 ∧ a1 = (qa_pour a x).2) (qm_Bt g dA dC dI) (qm_A g)) 0 0 (qm_A g) := by
  refine qm_met (by decide) rfl (Nat.le_of_ble_eq_true rfl) ?_
  intro p e s m below meth c ls S hr hlocks hP hK hl
  have hR : qf_RM ({ frames := 2, cells := 0, slots := 0, locals := 44 }) 2 44 := ⟨Nat.le_refl _, Nat.le_refl _⟩
  have hl : lv_has ls 4 [(0, .ref (g 0)), (1, .int x)] := hl
  have hS : va_S (qm_A g) s.heap s.heap [] := va_S.rf
  refine lv_aload_n S.1 S.2.1 dX1_pour_0 rfl (lv_at hl 0 rfl) ?_
  refine lv_iload_n S.1 S.2.1 dX1_pour_1 rfl (lv_at hl 1 rfl) ?_
  refine mc_isFilter S hK hP (hR.le (by decide) (by decide)) hl.1 (Nat.le_of_ble_eq_true rfl) dX1_pour_2 ?_
  refine qf_ifne (tgt := 10) S.1 S.2.1 dX1_pour_5 (by decide) (fun h1 => ?_) (fun h1 => ?_)
  · have h1 := of_decide_eq_true h1
    obtain ⟨f, hf, rfl⟩ := qa_ex h1
    have es : qa_pour a (nI f) = qa_pourF a f := qa_on_f hf _ _
    obtain ⟨hB, hH⟩ := hok f hf
    have hHs : qf_sm (a.2 f) 256 < 64 := hH
    have h64 := (qf_bk_64 hB).2
    have h8 := (qf_bk_64 hB).1
    have hH0 := (hok 0 (by decide)).2
    have hH1 := (hok 1 (by decide)).2
    refine lv_aload_n S.1 S.2.1 dX1_pour_10 rfl (lv_at hl 0 rfl) ?_
    refine lv_iconst (v := nI 0) S.1 S.2.1 dX1_pour_11 (by decide) ?_
    refine mc_count S hK hP (hR.le (by decide) (by decide)) hl.1 (Nat.le_of_ble_eq_true rfl) dX1_pour_12 ?_
    refine qf_top (qa_on_f (f := 0) (by decide) (fun f => nI (qa_H a f)) (-1)) ?_
    refine lv_aload_n S.1 S.2.1 dX1_pour_15 rfl (lv_at hl 0 rfl) ?_
    refine lv_iconst (v := nI 1) S.1 S.2.1 dX1_pour_16 (by decide) ?_
    refine mc_count S hK hP (hR.le (by decide) (by decide)) hl.1 (Nat.le_of_ble_eq_true rfl) dX1_pour_17 ?_
    refine qf_top (qa_on_f (f := 1) (by decide) (fun f => nI (qa_H a f)) (-1)) ?_
    refine lv_iadd S.1 S.2.1 dX1_pour_20 ?_
    refine qf_top (nI_add _ _) ?_
    refine lv_istore_n (lv' := [(2, .int (nI (qa_H a 0 + qa_H a 1))), (0, .ref (g 0)), (1, .int (nI f))]) S.1 S.2.1 dX1_pour_21 rfl hl (by decide) rfl (fun ls hl => ?_)
    refine lv_iload_n S.1 S.2.1 dX1_pour_22 rfl (lv_at hl 0 rfl) ?_
    refine lv_bipush (v := nI 63) S.1 S.2.1 dX1_pour_23 (by decide) ?_
    refine qf_icmple (tgt := 31) S.1 S.2.1 (by omega) (by decide) dX1_pour_25 (by decide) (fun h2 => ?_) (fun h2 => ?_)
    · refine lv_iconst (v := nI 0) S.1 S.2.1 dX1_pour_31 (by decide) ?_
      refine lv_istore_n (lv' := [(3, .int (nI 0)), (2, .int (nI (qa_H a 0 + qa_H a 1))), (0, .ref (g 0)), (1, .int (nI f))]) S.1 S.2.1 dX1_pour_32 rfl hl (by decide) rfl (fun ls hl => ?_)
      refine mu_loop1 S hK hf hR hg (H0 := s.heap) (a := a) (T := qa_H a 0 + qa_H a 1) (bf := qa_gb (qa_H a 0 + qa_H a 1) (a.1 f)) h2 (fun A H locs ls j1 j2 j3 hP hS hl => ?_) 3 0 a s.heap [] rfl rfl hB.2 (fun _ _ => rfl) (qm_it3 _ _) hP hS ls (lv_sub hl [2, 3, 1, 0] rfl)
      refine lv_iconst (v := nI 0) S.1 S.2.1 dX1_pour_70 (by decide) ?_
      refine lv_istore_n (lv' := [(3, .int (nI 0)), (0, .ref (g 0)), (1, .int (nI f)), (2, .int (nI (qa_H a 0 + qa_H a 1)))]) S.1 S.2.1 dX1_pour_71 rfl hl (by decide) rfl (fun ls hl => ?_)
      refine mu_loop2 S hK hf hR hg (H0 := s.heap) (a := a) (bs := A.1) (fun A2 H locs ls i1 i2 i3 hP hS hl => ?_) 256 0 A H locs rfl rfl (fun q hq => by rw [j1]; exact (if_neg (Nat.not_lt_zero _)).symm) (fun f1 _ => by rw [j1]) hP hS ls (lv_sub hl [1, 2, 3, 0] rfl)
      refine lv_iload_n S.1 S.2.1 dX1_pour_114 rfl (lv_at hl 1 rfl) ?_
      exact W.iret S.1 S.2.1 hr (fun t ht hW => ⟨⟨_, (qa_set a f (qa_gb (qa_H a 0 + qa_H a 1) (a.1 f)) (fun p => a.2 f p + a.2 (1 - f) p)), rfl, by rw [es, qa_pourF, if_neg (by omega)]; exact ⟨rfl, rfl⟩, by unfold qm_Bt; rw [ht]; exact qm_ext hP (fun f1 p1 hp1 => by show A2.2 f1 p1 = va_up a.2 f (fun p => a.2 f p + a.2 (1 - f) p) f1 p1; by_cases e1 : f1 = f; (· rw [e1, qf_up_s]; exact i2 p1 hp1); (· rw [qf_up_n _ _ e1, i3 f1 e1])) (fun f1 => by show A2.1 f1 = va_up a.1 f (qa_gb (qa_H a 0 + qa_H a 1) (a.1 f)) f1; rw [i1]; by_cases e1 : f1 = f; (· rw [e1, qf_up_s]; exact j3); (· rw [qf_up_n _ _ e1]; exact j2 f1 e1))⟩, hS.F ht⟩) hS.2.2 dX1_pour_115
    · refine lv_bipush (v := (-2)) S.1 S.2.1 dX1_pour_28 (by decide) ?_
      exact W.iret S.1 S.2.1 hr (fun t ht hW => ⟨⟨_, a, rfl, by rw [es, qa_pourF, if_pos h2]; exact ⟨rfl, rfl⟩, by unfold qm_Bt; rw [ht]; exact hP⟩, hS.F ht⟩) hS.2.2 dX1_pour_30
  · have h1 := of_decide_eq_false h1
    refine lv_iconst (v := (-1)) S.1 S.2.1 dX1_pour_8 (by decide) ?_
    exact W.iret S.1 S.2.1 hr (fun t ht hW => ⟨⟨_, a, rfl, by rw [show qa_pour a x = (-1, a) from qa_on_n h1 _ _]; exact ⟨rfl, rfl⟩, by unfold qm_Bt; rw [ht]; exact hP⟩, hS.F ht⟩) hS.2.2 dX1_pour_9
end
section
/-! the constructor of QuotientFilterModel -/
abbrev qm_fs0 : List Value := [.null, .null]
def qm_Bi (dC : Nat → ClassId) (dI : Nat → Nat → Nat) (A : Nat → Prop) (v : (Nat → Nat) × (Nat → ClassId)) (t : State) : Prop := va_P (dC, dI) qf_cl (qm_w v.1 v.2 qa_0) t.heap ∧ va_K (dC, dI) qf_cl (qm_tys v.2) t ∧ va_D A (qm_w v.1 v.2 qa_0)
theorem qm_dj_of {g : Nat → Nat} {dA : Nat → ClassId} {a : qa_S} {A : Nat → Prop} (h : va_D A (qm_w g dA a)) : qm_dj g := by
  intro i j hi hj e
  have at' : ∀ k, k < 3 → ∃ q, (qm_w g dA a)[k]? = some q ∧ q.1 = g k := by
    intro k hk
    match k, hk with
    | 0, _ => exact ⟨_, rfl, rfl⟩
    | 1, _ => exact ⟨_, rfl, rfl⟩
    | 2, _ => exact ⟨_, rfl, rfl⟩
    | k + 3, hk => omega
  obtain ⟨p, p1, p2⟩ := at' i hi
  obtain ⟨q, q1, q2⟩ := at' j hj
  exact h.1 i j p q p1 q1 (by rw [p2, q2, e])
set_option maxHeartbeats 4000000 in
set_option maxRecDepth 100000 in
/-- QuotientFilterModel(): two new arrays -/
theorem met_minit (l : Launch) (dC : Nat → ClassId) (dI : Nat → Nat → Nat) (h0 sz : Nat) : Met l yX1_init (ws_ yX1_init cX1_init 1 none) ({ frames := 1, cells := 2, slots := 514, locals := 12 }) (va_Pc [.ref h0] (fun U => U.heap.size = sz ∧ va_P (dC, dI) qf_cl [(h0, .inr (1, qm_fs0))] U.heap ∧ va_K (dC, dI) qf_cl [] U ∧ va_D (fun _ => True) [(h0, .inr (1, qm_fs0))])) (va_Qv (fun v : (Nat → Nat) × (Nat → ClassId) => v.1 0 = h0) (qm_Bi dC dI (va_A [(h0, .inr (1, qm_fs0))] sz)) (va_A [(h0, .inr (1, qm_fs0))] sz)) 2 514 (va_A [(h0, .inr (1, qm_fs0))] sz) := by
  refine Met.ofW (cc := cX1_init) (maxL := 1) (ret := none) (by decide) rfl ?_
  intro p e s m args below meth c s₁ B hml hv
  obtain ⟨rfl, hsz, hP, hK, hD0⟩ := hv
  have hx := B.exec
  have hb := B.bytes
  have hr := B.returns
  have hts := atoms_spec (ws := ws_ yX1_init cX1_init 1 none) B.pre
  have hts : ∀ w ∈ lw_all, w.before _ s = true := fun w h => hts w (List.mem_cons_of_mem _ h)
  have hown : s.vm.findClass RX1 = some m.cls := findClass_of_methodNamed B.named
  have hlocks := B.notSynchronized
  subst hsz
  have hD := hD0.self (sz := s.heap.size)
  generalize hAe : va_A [(h0, .inr (1, qm_fs0))] s.heap.size = A at hD ⊢
  have hA : ∀ q : Nat, s.heap.size ≤ q → A q := fun q h => by rw [← hAe]; exact Or.inr h
  have hS : va_S A s.heap s.heap [] := va_S.rf
  have hl := lv_entry ([.ref h0]) (n := 1) (Nat.le_of_ble_eq_true rfl)
  rw [lg_entry_eq]
  generalize (lg_sl ([.ref h0]) ++ List.replicate (1 - (lg_sl ([.ref h0])).length) Slot.unset).toArray = ls at hl ⊢
  have hl : lv_has ls 1 [(0, .ref h0)] := hl
  refine lv_aload_n hx hb dX1_init_0 rfl (lv_at hl 0 rfl) ?_
  refine W.objInit hx hb hown (hts _ q190) (hts _ q29) (hts _ q30) rfl (by rw [hml]; exact hl.1) rfl dX1_init_1 (Nat.le_of_ble_eq_true rfl) (Nat.le_of_ble_eq_true rfl) ?_
  refine W.eq (g2 := F0 m 4 ls []) rfl ?_
  refine lv_aload_n hx hb dX1_init_4 rfl (lv_at hl 0 rfl) ?_
  refine lv_sipush (v := 512) hx hb dX1_init_5 (by decide) ?_
  refine va_newa (atype := .int) (ty := .int) (N' := 512) (a0 := (512, .inl (fun _ => 0))) hx hb (hts _ q198) rfl hK hP hD hS hA (fun _ => rfl) (by decide) (by decide) (by decide) (Nat.le_of_ble_eq_true rfl) (Nat.le_of_ble_eq_true rfl) dX1_init_8 (fun q1 c1 H hK hP hD hS => ?_)
  have hK : va_K (dC, dI) qf_cl [(c1, .int)] s := hK
  have hP : va_P (dC, dI) qf_cl [(h0, .inr (1, [.null, .null])), (q1, .inl (c1, 512, .inl (fun _ => 0)))] H := hP
  have hD : va_D A [(h0, .inr (1, [.null, .null])), (q1, .inl (c1, 512, .inl (fun _ => 0)))] := hD
  refine W.widen (k := 1) (n := 512) (Nat.le_of_ble_eq_true rfl) (Nat.le_of_ble_eq_true rfl) ?_
  refine va_put (D := (dC, dI)) (ci := 1) (v := .ref q1) (ty := .array .int) (C := RX1) (T := TX1) (N := 2) hx hb hts in_X1 tyX1 tyX1_ok nmX1 hown hK hP hD hS 0 rfl rfl 0 (by decide) (hts _ q191) (fun _ h9 => h9) rfl (by decide +kernel) rfl rfl (Nat.le_of_ble_eq_true rfl) dX1_init_10 (fun H locs hP hD hS => ?_)
  have hP : va_P (dC, dI) qf_cl [(h0, .inr (1, [.ref q1, .null])), (q1, .inl (c1, 512, .inl (fun _ => 0)))] H := hP
  have hD : va_D A [(h0, .inr (1, [.ref q1, .null])), (q1, .inl (c1, 512, .inl (fun _ => 0)))] := hD
  refine lv_aload_n hx hb dX1_init_13 rfl (lv_at hl 0 rfl) ?_
  refine lv_iconst (v := 2) hx hb dX1_init_14 (by decide) ?_
  refine va_newa (atype := .int) (ty := .int) (N' := 2) (a0 := (2, .inl (fun _ => 0))) hx hb (hts _ q198) rfl hK hP hD hS hA (fun _ => rfl) (by decide) (by decide) (by decide) (Nat.le_of_ble_eq_true rfl) (Nat.le_of_ble_eq_true rfl) dX1_init_15 (fun q2 c2 H hK hP hD hS => ?_)
  have hK : va_K (dC, dI) qf_cl [(c1, .int), (c2, .int)] s := hK
  have hP : va_P (dC, dI) qf_cl [(h0, .inr (1, [.ref q1, .null])), (q1, .inl (c1, 512, .inl (fun _ => 0))), (q2, .inl (c2, 2, .inl (fun _ => 0)))] H := hP
  have hD : va_D A [(h0, .inr (1, [.ref q1, .null])), (q1, .inl (c1, 512, .inl (fun _ => 0))), (q2, .inl (c2, 2, .inl (fun _ => 0)))] := hD
  refine W.widen (k := 2) (n := 514) (Nat.le_of_ble_eq_true rfl) (Nat.le_of_ble_eq_true rfl) ?_
  refine va_put (D := (dC, dI)) (ci := 1) (v := .ref q2) (ty := .array .int) (C := RX1) (T := TX1) (N := 2) hx hb hts in_X1 tyX1 tyX1_ok nmX1 hown hK hP hD hS 0 rfl rfl 1 (by decide) (hts _ q192) (fun _ h9 => h9) rfl (by decide +kernel) rfl rfl (Nat.le_of_ble_eq_true rfl) dX1_init_17 (fun H locs hP hD hS => ?_)
  have hP : va_P (dC, dI) qf_cl [(h0, .inr (1, [.ref q1, .ref q2])), (q1, .inl (c1, 512, .inl (fun _ => 0))), (q2, .inl (c2, 2, .inl (fun _ => 0)))] H := hP
  have hD : va_D A [(h0, .inr (1, [.ref q1, .ref q2])), (q1, .inl (c1, 512, .inl (fun _ => 0))), (q2, .inl (c2, 2, .inl (fun _ => 0)))] := hD
  refine lv_aload_n hx hb dX1_init_20 rfl (lv_at hl 0 rfl) ?_
  refine va_get (D := (dC, dI)) (ci := 1) (v := .ref q2) (C := RX1) (T := TX1) (N := 2) hx hb hts in_X1 hown hK hP 0 rfl rfl 1 (by decide) (hts _ q192) (fun _ h9 => h9) rfl dX1_init_21 ?_
  refine lv_iconst (v := nI 0) hx hb dX1_init_24 (by decide) ?_
  refine lv_bipush (v := nI 8) hx hb dX1_init_25 (by decide) ?_
  refine va_iast hx hb hK hP hD hS 2 1 rfl rfl (vp_in_nI (n := 0) (by decide) (by decide)) dX1_init_27 (fun H locs hP hD hS => ?_)
  have hP : va_P (dC, dI) qf_cl [(h0, .inr (1, [.ref q1, .ref q2])), (q1, .inl (c1, 512, .inl (fun _ => 0))), (q2, .inl (c2, 2, .inl (upd (fun _ => 0) (nI 0).toNatClampNeg (nI 8))))] H := hP
  have hD : va_D A [(h0, .inr (1, [.ref q1, .ref q2])), (q1, .inl (c1, 512, .inl (fun _ => 0))), (q2, .inl (c2, 2, .inl (upd (fun _ => 0) (nI 0).toNatClampNeg (nI 8))))] := hD
  refine lv_aload_n hx hb dX1_init_28 rfl (lv_at hl 0 rfl) ?_
  refine va_get (D := (dC, dI)) (ci := 1) (v := .ref q2) (C := RX1) (T := TX1) (N := 2) hx hb hts in_X1 hown hK hP 0 rfl rfl 1 (by decide) (hts _ q192) (fun _ h9 => h9) rfl dX1_init_29 ?_
  refine lv_iconst (v := nI 1) hx hb dX1_init_32 (by decide) ?_
  refine lv_bipush (v := nI 8) hx hb dX1_init_33 (by decide) ?_
  refine va_iast hx hb hK hP hD hS 2 1 rfl rfl (vp_in_nI (n := 1) (by decide) (by decide)) dX1_init_35 (fun H locs hP hD hS => ?_)
  have hP : va_P (dC, dI) qf_cl [(h0, .inr (1, [.ref q1, .ref q2])), (q1, .inl (c1, 512, .inl (fun _ => 0))), (q2, .inl (c2, 2, .inl (upd (upd (fun _ => 0) (nI 0).toNatClampNeg (nI 8)) (nI 1).toNatClampNeg (nI 8))))] H := hP
  have hD : va_D A [(h0, .inr (1, [.ref q1, .ref q2])), (q1, .inl (c1, 512, .inl (fun _ => 0))), (q2, .inl (c2, 2, .inl (upd (upd (fun _ => 0) (nI 0).toNatClampNeg (nI 8)) (nI 1).toNatClampNeg (nI 8))))] := hD
  obtain ⟨g, hgd⟩ : ∃ g : Nat → Nat, g = fun k => [h0, q1, q2].getD k 0 := ⟨_, rfl⟩
  obtain ⟨dA, hdd⟩ : ∃ dA : Nat → ClassId, dA = fun k => [c1, c1, c2].getD k c1 := ⟨_, rfl⟩
  have hP : va_P (dC, dI) qf_cl (qm_r g dA (fun _ => 0) (upd (upd (fun _ => 0) (nI 0).toNatClampNeg (nI 8)) (nI 1).toNatClampNeg (nI 8))) H := by rw [hgd, hdd]; exact hP
  have hD : va_D A (qm_r g dA (fun _ => 0) (upd (upd (fun _ => 0) (nI 0).toNatClampNeg (nI 8)) (nI 1).toNatClampNeg (nI 8))) := by rw [hgd, hdd]; exact hD
  have hK : va_K (dC, dI) qf_cl (qm_tys dA) s := by rw [hdd]; exact hK
  have hP9 : va_P (dC, dI) qf_cl (qm_w g dA qa_0) H := by
    refine qm_w_of (a := qa_0) hP (fun _ => rfl) (fun j => ?_)
    show upd (upd (fun _ => 0) (nI 0).toNatClampNeg (nI 8)) (nI 1).toNatClampNeg (nI 8) j = nI (2 ^ (if j = 1 then 3 else if j = 0 then 3 else 32))
    rw [nI_clamp (by decide), nI_clamp (by decide)]
    unfold upd
    by_cases e1 : j = 1
    · rw [if_pos e1, if_pos e1]
    · rw [if_neg e1, if_neg e1]
      by_cases e2 : j = 0
      · rw [if_pos e2, if_pos e2]
      · rw [if_neg e2, if_neg e2]; show (0 : Int32) = nI (2 ^ 32); decide
  have hD9 : va_D A (qm_w g dA qa_0) := by
    refine ⟨fun i j x y hi hj e => ?_, fun k x hk => ?_⟩
    · exact hD.1 i j (((qm_r g dA (fun _ => 0) (upd (upd (fun _ => 0) (nI 0).toNatClampNeg (nI 8)) (nI 1).toNatClampNeg (nI 8)))[i]?).getD (0, .inr (0, []))) (((qm_r g dA (fun _ => 0) (upd (upd (fun _ => 0) (nI 0).toNatClampNeg (nI 8)) (nI 1).toNatClampNeg (nI 8)))[j]?).getD (0, .inr (0, []))) (qm_r_get (qm_r_at hi).1).1 (qm_r_get (qm_r_at hj).1).1 (by rw [(qm_r_get (qm_r_at hi).1).2, (qm_r_get (qm_r_at hj).1).2, ← (qm_r_at hi).2, ← (qm_r_at hj).2]; exact e)
    · have := hD.2 k (((qm_r g dA (fun _ => 0) (upd (upd (fun _ => 0) (nI 0).toNatClampNeg (nI 8)) (nI 1).toNatClampNeg (nI 8)))[k]?).getD (0, .inr (0, []))) (qm_r_get (qm_r_at hk).1).1
      rw [(qm_r_get (qm_r_at hk).1).2, ← (qm_r_at hk).2] at this
      exact this
  have hg0 : g 0 = h0 := by rw [hgd]; rfl
  refine W.widen (k := 2) (n := 514) (Nat.le_of_ble_eq_true rfl) (Nat.le_of_ble_eq_true rfl) ?_
  exact W.vret hx hb hr (fun t ht hW => ⟨⟨(g, dA), rfl, hg0, by rw [ht]; exact hP9, va_K.moved hW.alike hK, hD9⟩, hS.F ht⟩) hS.2.2 dX1_init_36
end
section
def R_law : String := "QuotientFilterLaw"
def lw_P (b : Addr) (xs : List Int32) (args : Array Value) (s : State) : Prop := args = #[.ref b] ∧ s.IntsAt b xs ∧ xs.length ≤ 192 ∧ (Jvm.Cond.and given_1 narrow_1).before args s = true
def lw_Q (_ : Array Value) (s : State) (o : Outcome) (t : State) : Prop := o = .returned (some (.int 1)) ∧ Framed s o t [] 600000 7290000
def lw_Z (below : List Frame) (a : Array Value) (s : State) : State → Prop := fun t => ∃ o, t.status = .running ∧ Ended t below o ∧ lw_Q a s o t
/-- the law's own end, with 1 on the stack, nothing written that was there before, its room as the claim has it -/
theorem lw_ret {p : Program} {l : Launch} {e : Env} {s : State} {m : MethodId} {below : List Frame} {meth : Method} {c : Code} {b : Nat} (hx : p.tables.exec = Jvm.exec) (hb : c.code = code) (hr : meth.sig.returnType = ret) (hlocks : meth.locks = false) {pc : Nat} {H : Heap} {ls : Array Slot} (hdg : decode code pc = .ok (.ireturn, 1)) : W p l e room_1 s m #[Value.ref b] below meth c H [] 600000 7290000 (lw_Z below #[Value.ref b] s) (F0 m pc ls [.int 1]) := by
  intro T hT X
  obtain ⟨fs, hret, hrun, hended, hW, hframe⟩ := X.leave (v := some (.int 1)) (hlocks := hlocks) (fun h => by rw [hr] at h; cases h)
  have hmeth' : T.vm.method? m = some meth := X.method'
  refine ⟨T.setFrames fs, ?_, .returned (some (.int 1)), hrun, hended, rfl, ⟨_, rfl⟩, hW, hframe⟩
  jvm_step X.here [X.here.top, hx, hb, hdg, hmeth', hr, ret, narrow_b1]
  (try refine ⟨rfl, ?_⟩); (try refine ⟨rfl, ?_⟩)
  first | (intro acts; rw [hret _ acts rfl rfl rfl]) | rw [hret _ _ rfl rfl rfl]
  exact Steps.refl _
/-- what holds at the law's entry: the machine, the code, the tables' words (any of lw_tbl by 'hts w (by decide +kernel)'), the script of L ints xs at the cell b, what the Statement gives of the start (any of its parts by flat_of_before) -/
def lw_At (p : Program) (s : State) (m : MethodId) (meth : Method) (c : Code) (b L : Nat) (xs : Nat → Int32) : Prop :=
  p.tables.exec = Jvm.exec ∧ c.code = code ∧ meth.sig.returnType = ret ∧ c.maxLocals = 4 ∧ s.vm.findClass R_law = some m.cls ∧ (∀ w ∈ lw_tbl, w.before #[Value.ref b] s = true) ∧ va_X b L xs s s.heap ∧ b < s.heap.size ∧ meth.locks = false ∧ (Jvm.Cond.and given_1 narrow_1).before #[Value.ref b] s = true
end
section
/-! THE LAW: what stands still, what holds at the head of its loop, a row a case -/
abbrev la_A (s : State) : Nat → Prop := fun q => s.heap.size ≤ q
def la_E (s : State) (b L : Nat) (xs : Nat → Int32) (dC : Nat → ClassId) (dI : Nat → Nat → Nat) (g g' : Nat → Nat) (dA dA' : Nat → ClassId) : Prop :=
  va_X b L xs s s.heap ∧ b < s.heap.size ∧ L ≤ 192 ∧ va_K (dC, dI) qf_cl (qf_tys dA) s ∧ va_K (dC, dI) qf_cl (qm_tys dA') s ∧ qf_dj g ∧ qm_dj g' ∧ (∀ q, qf_A g q → la_A s q) ∧ (∀ q, qm_A g' q → la_A s q) ∧ (∀ i j, i < 8 → j < 3 → g i ≠ g' j)
def la_I (s : State) (dC : Nat → ClassId) (dI : Nat → Nat → Nat) (g g' : Nat → Nat) (dA dA' : Nat → ClassId) (u : qf_QS) (a : qa_S) (H : Heap) (locs : List Loc) : Prop :=
  va_P (dC, dI) qf_cl (qf_w g dA u) H ∧ va_P (dC, dI) qf_cl (qm_w g' dA' a) H ∧ va_S (la_A s) s.heap H locs ∧ qf_good u a
theorem la_keepQ {dC : Nat → ClassId} {dI : Nat → Nat → Nat} {g g' : Nat → Nat} {dA' : Nat → ClassId} {a : qa_S} {H H1 : Heap} (hap : ∀ i j, i < 8 → j < 3 → g i ≠ g' j) (hQ : va_P (dC, dI) qf_cl (qm_w g' dA' a) H) (hk : ∀ q : Nat, q < H.size → ¬ qf_A g q → H1[q]? = H[q]?) : va_P (dC, dI) qf_cl (qm_w g' dA' a) H1 :=
  hQ.kept (fun k q hq => hk q.1 (hQ k q hq).lt (fun h => by
    obtain ⟨j, j1, j2⟩ := h
    obtain ⟨k3, ek⟩ := qm_r_at hq
    exact hap j k j1 k3 (j2.symm.trans ek)))
theorem la_keepP {dC : Nat → ClassId} {dI : Nat → Nat → Nat} {g g' : Nat → Nat} {dA : Nat → ClassId} {u : qf_QS} {H H1 : Heap} (hap : ∀ i j, i < 8 → j < 3 → g i ≠ g' j) (hP : va_P (dC, dI) qf_cl (qf_w g dA u) H) (hk : ∀ q : Nat, q < H.size → ¬ qm_A g' q → H1[q]? = H[q]?) : va_P (dC, dI) qf_cl (qf_w g dA u) H1 :=
  hP.kept (fun k q hq => hk q.1 (hP k q hq).lt (fun h => by
    obtain ⟨j, j1, j2⟩ := h
    obtain ⟨k8, ek⟩ := qf_r_at hq
    exact hap k j k8 j1 (ek.symm.trans j2)))
theorem la_cmp {L i : Nat} (hL : L ≤ 192) (hi : i ≤ L) (h : ¬ (Int32.ofNat L - nI 3 < nI i)) : i + 3 ≤ L := by
  rcases Nat.lt_or_ge L (i + 3) with q | q
  · exact absurd (Int32.lt_iff_toInt_lt.mpr (by
      rw [show Int32.ofNat L = nI L from rfl, pk_sub_toInt (by omega) (by decide), nI_toInt (by omega)]
      omega)) h
  · exact q
section LAW
variable {p : Program} {l : Launch} {e : Env} {s : State} {m : MethodId} {below : List Frame} {meth : Method} {c : Code} {H : Heap} {locs : List Loc} {cells slots : Nat} {Q : State → Prop} {ls : Array Slot} {rest : List Value} {g g' : Nat → Nat} {dC : Nat → ClassId} {dI : Nat → Nat → Nat} {dA dA' : Nat → ClassId} {u : qf_QS} {a : qa_S} {b L i pc : Nat} {xs : Nat → Int32}
theorem la_ld {R : Room} {args : Array Value} {k : Nat} (hx : p.tables.exec = Jvm.exec) (hb : c.code = code) (hX : va_X b L xs s s.heap) (hbl : b < s.heap.size) (hS : va_S (la_A s) s.heap H locs) (hk : k < L) (hL : L ≤ 192) (hdg : decode code pc = .ok (.iaload, 1)) (kk : W p l e R s m args below meth c H locs cells slots Q (F0 m (pc + 1) ls (.int (xs k) :: rest))) : W p l e R s m args below meth c H locs cells slots Q (F0 m pc ls (.int (nI k) :: .ref b :: rest)) := by
  refine va_sld (A := la_A s) hx hb hX hbl (Nat.not_le.mpr hbl) hS (vp_in_nI hk (by omega)) hdg ?_
  rw [nI_clamp (by omega)]
  exact kk
set_option maxHeartbeats 4000000 in
set_option maxRecDepth 100000 in
theorem la_add (S : CallFix p m c code 4 s #[Value.ref b] lw_all "QuotientFilterLaw") (E : la_E s b L xs dC dI g g' dA dA') (hi : i + 3 ≤ L) (I : la_I s dC dI g g' dA dA' u a H locs) (hl : lv_has ls 4 [(0, .ref b), (1, .ref (g 0)), (2, .ref (g' 0)), (3, .int (nI i))]) (kk : ∀ (u1 : qf_QS) (a1 : qa_S) (H1 : Heap) (locs1 : List Loc), la_I s dC dI g g' dA dA' u1 a1 H1 locs1 → W p l e room_1 s m #[Value.ref b] below meth c H1 locs1 11 1104 Q (F0 m 422 ls [])) : W p l e room_1 s m #[Value.ref b] below meth c H locs 11 1104 Q (F0 m 96 ls []) := by
  obtain ⟨hX, hbl, hL, hK1, hK2, hg, hg', hA1, hA2, hap⟩ := E
  obtain ⟨hP, hQ, hS, hG⟩ := I
  have hok := qf_good_ok hG
  refine lv_aload_n S.1 S.2.1 dL_law_96 rfl (lv_at hl 1 rfl) ?_
  refine lv_aload_n S.1 S.2.1 dL_law_97 rfl (lv_at hl 0 rfl) ?_
  refine lv_iload_n S.1 S.2.1 dL_law_98 rfl (lv_at hl 3 rfl) ?_
  refine lv_iconst (v := nI 1) S.1 S.2.1 dL_law_99 (by decide) ?_
  refine lv_iadd S.1 S.2.1 dL_law_100 ?_
  refine qf_top (nI_add _ _) ?_
  refine la_ld S.1 S.2.1 hX hbl hS (by omega) hL dL_law_101 ?_
  refine lv_aload_n S.1 S.2.1 dL_law_102 rfl (lv_at hl 0 rfl) ?_
  refine lv_iload_n S.1 S.2.1 dL_law_103 rfl (lv_at hl 3 rfl) ?_
  refine lv_iconst (v := nI 2) S.1 S.2.1 dL_law_104 (by decide) ?_
  refine lv_iadd S.1 S.2.1 dL_law_105 ?_
  refine qf_top (nI_add _ _) ?_
  refine la_ld S.1 S.2.1 hX hbl hS (by omega) hL dL_law_106 ?_
  refine qf_calli S hK1 hP hS hA1 (met_add l dC dI dA g u a (xs (i + 1)) (xs (i + 2)) hg hG) (lw_V q59 q60 q61 q21 q62) rfl rfl (by decide +kernel) ⟨Nat.le_of_ble_eq_true rfl, Nat.le_of_ble_eq_true rfl⟩ (n := 2) rfl hl.1 (Nat.le_of_ble_eq_true rfl) dL_law_107 ⟨Nat.le_of_ble_eq_true rfl, Nat.le_of_ble_eq_true rfl⟩ (As := [.int (xs (i + 1)), .int (xs (i + 2))]) rfl (fun r u1 H locs hp hP hS hz hk => ?_)
  obtain ⟨rfl, hG⟩ := hp
  have hQ := la_keepQ hap hQ hk
  refine lv_aload_n S.1 S.2.1 dL_law_110 rfl (lv_at hl 2 rfl) ?_
  refine lv_aload_n S.1 S.2.1 dL_law_111 rfl (lv_at hl 0 rfl) ?_
  refine lv_iload_n S.1 S.2.1 dL_law_112 rfl (lv_at hl 3 rfl) ?_
  refine lv_iconst (v := nI 1) S.1 S.2.1 dL_law_113 (by decide) ?_
  refine lv_iadd S.1 S.2.1 dL_law_114 ?_
  refine qf_top (nI_add _ _) ?_
  refine la_ld S.1 S.2.1 hX hbl hS (by omega) hL dL_law_115 ?_
  refine lv_aload_n S.1 S.2.1 dL_law_116 rfl (lv_at hl 0 rfl) ?_
  refine lv_iload_n S.1 S.2.1 dL_law_117 rfl (lv_at hl 3 rfl) ?_
  refine lv_iconst (v := nI 2) S.1 S.2.1 dL_law_118 (by decide) ?_
  refine lv_iadd S.1 S.2.1 dL_law_119 ?_
  refine qf_top (nI_add _ _) ?_
  refine la_ld S.1 S.2.1 hX hbl hS (by omega) hL dL_law_120 ?_
  refine qm_calli S hK2 hQ hS hA2 (met_madd l dC dI dA' g' a (xs (i + 1)) (xs (i + 2)) hg' hok) (lw_V q199 q200 q201 q22 q202) rfl rfl (by decide +kernel) ⟨Nat.le_of_ble_eq_true rfl, Nat.le_of_ble_eq_true rfl⟩ (n := 2) rfl hl.1 (Nat.le_of_ble_eq_true rfl) dL_law_121 ⟨Nat.le_of_ble_eq_true rfl, Nat.le_of_ble_eq_true rfl⟩ (As := [.int (xs (i + 1)), .int (xs (i + 2))]) rfl (fun r a1 H locs hp hQ hS hz hk => ?_)
  obtain ⟨rfl, rfl⟩ := hp
  have hP := la_keepP hap hP hk
  refine lv_icmp_eq (tgt := 422) S.1 S.2.1 dL_law_124 (by decide) (fun _ => ?_) (fun h => absurd rfl h)
  exact kk _ _ _ _ ⟨hP, hQ, hS, hG⟩
set_option maxHeartbeats 4000000 in
set_option maxRecDepth 100000 in
theorem la_remove (S : CallFix p m c code 4 s #[Value.ref b] lw_all "QuotientFilterLaw") (E : la_E s b L xs dC dI g g' dA dA') (hi : i + 3 ≤ L) (I : la_I s dC dI g g' dA dA' u a H locs) (hl : lv_has ls 4 [(0, .ref b), (1, .ref (g 0)), (2, .ref (g' 0)), (3, .int (nI i))]) (kk : ∀ (u1 : qf_QS) (a1 : qa_S) (H1 : Heap) (locs1 : List Loc), la_I s dC dI g g' dA dA' u1 a1 H1 locs1 → W p l e room_1 s m #[Value.ref b] below meth c H1 locs1 11 1104 Q (F0 m 422 ls [])) : W p l e room_1 s m #[Value.ref b] below meth c H locs 11 1104 Q (F0 m 129 ls []) := by
  obtain ⟨hX, hbl, hL, hK1, hK2, hg, hg', hA1, hA2, hap⟩ := E
  obtain ⟨hP, hQ, hS, hG⟩ := I
  have hok := qf_good_ok hG
  refine lv_aload_n S.1 S.2.1 dL_law_129 rfl (lv_at hl 1 rfl) ?_
  refine lv_aload_n S.1 S.2.1 dL_law_130 rfl (lv_at hl 0 rfl) ?_
  refine lv_iload_n S.1 S.2.1 dL_law_131 rfl (lv_at hl 3 rfl) ?_
  refine lv_iconst (v := nI 1) S.1 S.2.1 dL_law_132 (by decide) ?_
  refine lv_iadd S.1 S.2.1 dL_law_133 ?_
  refine qf_top (nI_add _ _) ?_
  refine la_ld S.1 S.2.1 hX hbl hS (by omega) hL dL_law_134 ?_
  refine lv_aload_n S.1 S.2.1 dL_law_135 rfl (lv_at hl 0 rfl) ?_
  refine lv_iload_n S.1 S.2.1 dL_law_136 rfl (lv_at hl 3 rfl) ?_
  refine lv_iconst (v := nI 2) S.1 S.2.1 dL_law_137 (by decide) ?_
  refine lv_iadd S.1 S.2.1 dL_law_138 ?_
  refine qf_top (nI_add _ _) ?_
  refine la_ld S.1 S.2.1 hX hbl hS (by omega) hL dL_law_139 ?_
  refine qf_calli S hK1 hP hS hA1 (met_remove l dC dI dA g u a (xs (i + 1)) (xs (i + 2)) hg hG) (lw_V q120 q121 q122 q21 q123) rfl rfl (by decide +kernel) ⟨Nat.le_of_ble_eq_true rfl, Nat.le_of_ble_eq_true rfl⟩ (n := 2) rfl hl.1 (Nat.le_of_ble_eq_true rfl) dL_law_140 ⟨Nat.le_of_ble_eq_true rfl, Nat.le_of_ble_eq_true rfl⟩ (As := [.int (xs (i + 1)), .int (xs (i + 2))]) rfl (fun r u1 H locs hp hP hS hz hk => ?_)
  obtain ⟨rfl, hG⟩ := hp
  have hQ := la_keepQ hap hQ hk
  refine lv_aload_n S.1 S.2.1 dL_law_143 rfl (lv_at hl 2 rfl) ?_
  refine lv_aload_n S.1 S.2.1 dL_law_144 rfl (lv_at hl 0 rfl) ?_
  refine lv_iload_n S.1 S.2.1 dL_law_145 rfl (lv_at hl 3 rfl) ?_
  refine lv_iconst (v := nI 1) S.1 S.2.1 dL_law_146 (by decide) ?_
  refine lv_iadd S.1 S.2.1 dL_law_147 ?_
  refine qf_top (nI_add _ _) ?_
  refine la_ld S.1 S.2.1 hX hbl hS (by omega) hL dL_law_148 ?_
  refine lv_aload_n S.1 S.2.1 dL_law_149 rfl (lv_at hl 0 rfl) ?_
  refine lv_iload_n S.1 S.2.1 dL_law_150 rfl (lv_at hl 3 rfl) ?_
  refine lv_iconst (v := nI 2) S.1 S.2.1 dL_law_151 (by decide) ?_
  refine lv_iadd S.1 S.2.1 dL_law_152 ?_
  refine qf_top (nI_add _ _) ?_
  refine la_ld S.1 S.2.1 hX hbl hS (by omega) hL dL_law_153 ?_
  refine qm_calli S hK2 hQ hS hA2 (met_mremove l dC dI dA' g' a (xs (i + 1)) (xs (i + 2)) hg' hok) (lw_V q216 q217 q218 q22 q219) rfl rfl (by decide +kernel) ⟨Nat.le_of_ble_eq_true rfl, Nat.le_of_ble_eq_true rfl⟩ (n := 2) rfl hl.1 (Nat.le_of_ble_eq_true rfl) dL_law_154 ⟨Nat.le_of_ble_eq_true rfl, Nat.le_of_ble_eq_true rfl⟩ (As := [.int (xs (i + 1)), .int (xs (i + 2))]) rfl (fun r a1 H locs hp hQ hS hz hk => ?_)
  obtain ⟨rfl, rfl⟩ := hp
  have hP := la_keepP hap hP hk
  refine lv_icmp_eq (tgt := 422) S.1 S.2.1 dL_law_157 (by decide) (fun _ => ?_) (fun h => absurd rfl h)
  exact kk _ _ _ _ ⟨hP, hQ, hS, hG⟩
set_option maxHeartbeats 4000000 in
set_option maxRecDepth 100000 in
theorem la_maybe (S : CallFix p m c code 4 s #[Value.ref b] lw_all "QuotientFilterLaw") (E : la_E s b L xs dC dI g g' dA dA') (hi : i + 3 ≤ L) (I : la_I s dC dI g g' dA dA' u a H locs) (hl : lv_has ls 4 [(0, .ref b), (1, .ref (g 0)), (2, .ref (g' 0)), (3, .int (nI i))]) (kk : ∀ (u1 : qf_QS) (a1 : qa_S) (H1 : Heap) (locs1 : List Loc), la_I s dC dI g g' dA dA' u1 a1 H1 locs1 → W p l e room_1 s m #[Value.ref b] below meth c H1 locs1 11 1104 Q (F0 m 422 ls [])) : W p l e room_1 s m #[Value.ref b] below meth c H locs 11 1104 Q (F0 m 162 ls []) := by
  obtain ⟨hX, hbl, hL, hK1, hK2, hg, hg', hA1, hA2, hap⟩ := E
  obtain ⟨hP, hQ, hS, hG⟩ := I
  have hok := qf_good_ok hG
  refine lv_aload_n S.1 S.2.1 dL_law_162 rfl (lv_at hl 1 rfl) ?_
  refine lv_aload_n S.1 S.2.1 dL_law_163 rfl (lv_at hl 0 rfl) ?_
  refine lv_iload_n S.1 S.2.1 dL_law_164 rfl (lv_at hl 3 rfl) ?_
  refine lv_iconst (v := nI 1) S.1 S.2.1 dL_law_165 (by decide) ?_
  refine lv_iadd S.1 S.2.1 dL_law_166 ?_
  refine qf_top (nI_add _ _) ?_
  refine la_ld S.1 S.2.1 hX hbl hS (by omega) hL dL_law_167 ?_
  refine lv_aload_n S.1 S.2.1 dL_law_168 rfl (lv_at hl 0 rfl) ?_
  refine lv_iload_n S.1 S.2.1 dL_law_169 rfl (lv_at hl 3 rfl) ?_
  refine lv_iconst (v := nI 2) S.1 S.2.1 dL_law_170 (by decide) ?_
  refine lv_iadd S.1 S.2.1 dL_law_171 ?_
  refine qf_top (nI_add _ _) ?_
  refine la_ld S.1 S.2.1 hX hbl hS (by omega) hL dL_law_172 ?_
  refine qf_callR S hK1 hP (met_maybe l dC dI dA g u a (xs (i + 1)) (xs (i + 2)) hg hG) (lw_V q136 q137 q138 q21 q139) rfl rfl (by decide +kernel) ⟨Nat.le_of_ble_eq_true rfl, Nat.le_of_ble_eq_true rfl⟩ (n := 2) rfl hl.1 (Nat.le_of_ble_eq_true rfl) dL_law_173 ⟨Nat.le_of_ble_eq_true rfl, Nat.le_of_ble_eq_true rfl⟩ (As := [.int (xs (i + 1)), .int (xs (i + 2))]) rfl (fun r hp => ?_)
  subst hp
  refine lv_aload_n S.1 S.2.1 dL_law_176 rfl (lv_at hl 2 rfl) ?_
  refine lv_aload_n S.1 S.2.1 dL_law_177 rfl (lv_at hl 0 rfl) ?_
  refine lv_iload_n S.1 S.2.1 dL_law_178 rfl (lv_at hl 3 rfl) ?_
  refine lv_iconst (v := nI 1) S.1 S.2.1 dL_law_179 (by decide) ?_
  refine lv_iadd S.1 S.2.1 dL_law_180 ?_
  refine qf_top (nI_add _ _) ?_
  refine la_ld S.1 S.2.1 hX hbl hS (by omega) hL dL_law_181 ?_
  refine lv_aload_n S.1 S.2.1 dL_law_182 rfl (lv_at hl 0 rfl) ?_
  refine lv_iload_n S.1 S.2.1 dL_law_183 rfl (lv_at hl 3 rfl) ?_
  refine lv_iconst (v := nI 2) S.1 S.2.1 dL_law_184 (by decide) ?_
  refine lv_iadd S.1 S.2.1 dL_law_185 ?_
  refine qf_top (nI_add _ _) ?_
  refine la_ld S.1 S.2.1 hX hbl hS (by omega) hL dL_law_186 ?_
  refine qm_callR S hK2 hQ (met_mmaybe l dC dI dA' g' a (xs (i + 1)) (xs (i + 2)) hok) (lw_V q220 q221 q222 q22 q223) rfl rfl (by decide +kernel) ⟨Nat.le_of_ble_eq_true rfl, Nat.le_of_ble_eq_true rfl⟩ (n := 2) rfl hl.1 (Nat.le_of_ble_eq_true rfl) dL_law_187 ⟨Nat.le_of_ble_eq_true rfl, Nat.le_of_ble_eq_true rfl⟩ (As := [.int (xs (i + 1)), .int (xs (i + 2))]) rfl (fun r hp => ?_)
  subst hp
  refine lv_icmp_eq (tgt := 422) S.1 S.2.1 dL_law_190 (by decide) (fun _ => ?_) (fun h => absurd rfl h)
  exact kk _ _ _ _ ⟨hP, hQ, hS, hG⟩
set_option maxHeartbeats 4000000 in
set_option maxRecDepth 100000 in
theorem la_times (S : CallFix p m c code 4 s #[Value.ref b] lw_all "QuotientFilterLaw") (E : la_E s b L xs dC dI g g' dA dA') (hi : i + 3 ≤ L) (I : la_I s dC dI g g' dA dA' u a H locs) (hl : lv_has ls 4 [(0, .ref b), (1, .ref (g 0)), (2, .ref (g' 0)), (3, .int (nI i))]) (kk : ∀ (u1 : qf_QS) (a1 : qa_S) (H1 : Heap) (locs1 : List Loc), la_I s dC dI g g' dA dA' u1 a1 H1 locs1 → W p l e room_1 s m #[Value.ref b] below meth c H1 locs1 11 1104 Q (F0 m 422 ls [])) : W p l e room_1 s m #[Value.ref b] below meth c H locs 11 1104 Q (F0 m 195 ls []) := by
  obtain ⟨hX, hbl, hL, hK1, hK2, hg, hg', hA1, hA2, hap⟩ := E
  obtain ⟨hP, hQ, hS, hG⟩ := I
  have hok := qf_good_ok hG
  refine lv_aload_n S.1 S.2.1 dL_law_195 rfl (lv_at hl 1 rfl) ?_
  refine lv_aload_n S.1 S.2.1 dL_law_196 rfl (lv_at hl 0 rfl) ?_
  refine lv_iload_n S.1 S.2.1 dL_law_197 rfl (lv_at hl 3 rfl) ?_
  refine lv_iconst (v := nI 1) S.1 S.2.1 dL_law_198 (by decide) ?_
  refine lv_iadd S.1 S.2.1 dL_law_199 ?_
  refine qf_top (nI_add _ _) ?_
  refine la_ld S.1 S.2.1 hX hbl hS (by omega) hL dL_law_200 ?_
  refine lv_aload_n S.1 S.2.1 dL_law_201 rfl (lv_at hl 0 rfl) ?_
  refine lv_iload_n S.1 S.2.1 dL_law_202 rfl (lv_at hl 3 rfl) ?_
  refine lv_iconst (v := nI 2) S.1 S.2.1 dL_law_203 (by decide) ?_
  refine lv_iadd S.1 S.2.1 dL_law_204 ?_
  refine qf_top (nI_add _ _) ?_
  refine la_ld S.1 S.2.1 hX hbl hS (by omega) hL dL_law_205 ?_
  refine qf_callR S hK1 hP (met_times l dC dI dA g u a (xs (i + 1)) (xs (i + 2)) hg hG) (lw_V q140 q141 q142 q21 q143) rfl rfl (by decide +kernel) ⟨Nat.le_of_ble_eq_true rfl, Nat.le_of_ble_eq_true rfl⟩ (n := 2) rfl hl.1 (Nat.le_of_ble_eq_true rfl) dL_law_206 ⟨Nat.le_of_ble_eq_true rfl, Nat.le_of_ble_eq_true rfl⟩ (As := [.int (xs (i + 1)), .int (xs (i + 2))]) rfl (fun r hp => ?_)
  subst hp
  refine lv_aload_n S.1 S.2.1 dL_law_209 rfl (lv_at hl 2 rfl) ?_
  refine lv_aload_n S.1 S.2.1 dL_law_210 rfl (lv_at hl 0 rfl) ?_
  refine lv_iload_n S.1 S.2.1 dL_law_211 rfl (lv_at hl 3 rfl) ?_
  refine lv_iconst (v := nI 1) S.1 S.2.1 dL_law_212 (by decide) ?_
  refine lv_iadd S.1 S.2.1 dL_law_213 ?_
  refine qf_top (nI_add _ _) ?_
  refine la_ld S.1 S.2.1 hX hbl hS (by omega) hL dL_law_214 ?_
  refine lv_aload_n S.1 S.2.1 dL_law_215 rfl (lv_at hl 0 rfl) ?_
  refine lv_iload_n S.1 S.2.1 dL_law_216 rfl (lv_at hl 3 rfl) ?_
  refine lv_iconst (v := nI 2) S.1 S.2.1 dL_law_217 (by decide) ?_
  refine lv_iadd S.1 S.2.1 dL_law_218 ?_
  refine qf_top (nI_add _ _) ?_
  refine la_ld S.1 S.2.1 hX hbl hS (by omega) hL dL_law_219 ?_
  refine qm_callR S hK2 hQ (met_mtimes l dC dI dA' g' a (xs (i + 1)) (xs (i + 2)) ) (lw_V q224 q225 q226 q22 q227) rfl rfl (by decide +kernel) ⟨Nat.le_of_ble_eq_true rfl, Nat.le_of_ble_eq_true rfl⟩ (n := 2) rfl hl.1 (Nat.le_of_ble_eq_true rfl) dL_law_220 ⟨Nat.le_of_ble_eq_true rfl, Nat.le_of_ble_eq_true rfl⟩ (As := [.int (xs (i + 1)), .int (xs (i + 2))]) rfl (fun r hp => ?_)
  subst hp
  refine lv_icmp_eq (tgt := 422) S.1 S.2.1 dL_law_223 (by decide) (fun _ => ?_) (fun h => absurd rfl h)
  exact kk _ _ _ _ ⟨hP, hQ, hS, hG⟩
set_option maxHeartbeats 4000000 in
set_option maxRecDepth 100000 in
theorem la_count (S : CallFix p m c code 4 s #[Value.ref b] lw_all "QuotientFilterLaw") (E : la_E s b L xs dC dI g g' dA dA') (hi : i + 3 ≤ L) (I : la_I s dC dI g g' dA dA' u a H locs) (hl : lv_has ls 4 [(0, .ref b), (1, .ref (g 0)), (2, .ref (g' 0)), (3, .int (nI i))]) (kk : ∀ (u1 : qf_QS) (a1 : qa_S) (H1 : Heap) (locs1 : List Loc), la_I s dC dI g g' dA dA' u1 a1 H1 locs1 → W p l e room_1 s m #[Value.ref b] below meth c H1 locs1 11 1104 Q (F0 m 422 ls [])) : W p l e room_1 s m #[Value.ref b] below meth c H locs 11 1104 Q (F0 m 228 ls []) := by
  obtain ⟨hX, hbl, hL, hK1, hK2, hg, hg', hA1, hA2, hap⟩ := E
  obtain ⟨hP, hQ, hS, hG⟩ := I
  have hok := qf_good_ok hG
  refine lv_aload_n S.1 S.2.1 dL_law_228 rfl (lv_at hl 1 rfl) ?_
  refine lv_aload_n S.1 S.2.1 dL_law_229 rfl (lv_at hl 0 rfl) ?_
  refine lv_iload_n S.1 S.2.1 dL_law_230 rfl (lv_at hl 3 rfl) ?_
  refine lv_iconst (v := nI 1) S.1 S.2.1 dL_law_231 (by decide) ?_
  refine lv_iadd S.1 S.2.1 dL_law_232 ?_
  refine qf_top (nI_add _ _) ?_
  refine la_ld S.1 S.2.1 hX hbl hS (by omega) hL dL_law_233 ?_
  refine qf_callR S hK1 hP (met_count l dC dI dA g u a (xs (i + 1)) hg hG) (lw_V q144 q145 q146 q21 q147) rfl rfl (by decide +kernel) ⟨Nat.le_of_ble_eq_true rfl, Nat.le_of_ble_eq_true rfl⟩ (n := 1) rfl hl.1 (Nat.le_of_ble_eq_true rfl) dL_law_234 ⟨Nat.le_of_ble_eq_true rfl, Nat.le_of_ble_eq_true rfl⟩ (As := [.int (xs (i + 1))]) rfl (fun r hp => ?_)
  subst hp
  refine lv_aload_n S.1 S.2.1 dL_law_237 rfl (lv_at hl 2 rfl) ?_
  refine lv_aload_n S.1 S.2.1 dL_law_238 rfl (lv_at hl 0 rfl) ?_
  refine lv_iload_n S.1 S.2.1 dL_law_239 rfl (lv_at hl 3 rfl) ?_
  refine lv_iconst (v := nI 1) S.1 S.2.1 dL_law_240 (by decide) ?_
  refine lv_iadd S.1 S.2.1 dL_law_241 ?_
  refine qf_top (nI_add _ _) ?_
  refine la_ld S.1 S.2.1 hX hbl hS (by omega) hL dL_law_242 ?_
  refine qm_callR S hK2 hQ (met_mcount l dC dI dA' g' a (xs (i + 1)) ) (lw_V q228 q208 q209 q22 q210) rfl rfl (by decide +kernel) ⟨Nat.le_of_ble_eq_true rfl, Nat.le_of_ble_eq_true rfl⟩ (n := 1) rfl hl.1 (Nat.le_of_ble_eq_true rfl) dL_law_243 ⟨Nat.le_of_ble_eq_true rfl, Nat.le_of_ble_eq_true rfl⟩ (As := [.int (xs (i + 1))]) rfl (fun r hp => ?_)
  subst hp
  refine lv_icmp_eq (tgt := 422) S.1 S.2.1 dL_law_246 (by decide) (fun _ => ?_) (fun h => absurd rfl h)
  exact kk _ _ _ _ ⟨hP, hQ, hS, hG⟩
set_option maxHeartbeats 4000000 in
set_option maxRecDepth 100000 in
theorem la_size (S : CallFix p m c code 4 s #[Value.ref b] lw_all "QuotientFilterLaw") (E : la_E s b L xs dC dI g g' dA dA') (hi : i + 3 ≤ L) (I : la_I s dC dI g g' dA dA' u a H locs) (hl : lv_has ls 4 [(0, .ref b), (1, .ref (g 0)), (2, .ref (g' 0)), (3, .int (nI i))]) (kk : ∀ (u1 : qf_QS) (a1 : qa_S) (H1 : Heap) (locs1 : List Loc), la_I s dC dI g g' dA dA' u1 a1 H1 locs1 → W p l e room_1 s m #[Value.ref b] below meth c H1 locs1 11 1104 Q (F0 m 422 ls [])) : W p l e room_1 s m #[Value.ref b] below meth c H locs 11 1104 Q (F0 m 251 ls []) := by
  obtain ⟨hX, hbl, hL, hK1, hK2, hg, hg', hA1, hA2, hap⟩ := E
  obtain ⟨hP, hQ, hS, hG⟩ := I
  have hok := qf_good_ok hG
  refine lv_aload_n S.1 S.2.1 dL_law_251 rfl (lv_at hl 1 rfl) ?_
  refine lv_aload_n S.1 S.2.1 dL_law_252 rfl (lv_at hl 0 rfl) ?_
  refine lv_iload_n S.1 S.2.1 dL_law_253 rfl (lv_at hl 3 rfl) ?_
  refine lv_iconst (v := nI 1) S.1 S.2.1 dL_law_254 (by decide) ?_
  refine lv_iadd S.1 S.2.1 dL_law_255 ?_
  refine qf_top (nI_add _ _) ?_
  refine la_ld S.1 S.2.1 hX hbl hS (by omega) hL dL_law_256 ?_
  refine qf_callR S hK1 hP (met_size l dC dI dA g u a (xs (i + 1)) hg hG) (lw_V q148 q149 q150 q21 q151) rfl rfl (by decide +kernel) ⟨Nat.le_of_ble_eq_true rfl, Nat.le_of_ble_eq_true rfl⟩ (n := 1) rfl hl.1 (Nat.le_of_ble_eq_true rfl) dL_law_257 ⟨Nat.le_of_ble_eq_true rfl, Nat.le_of_ble_eq_true rfl⟩ (As := [.int (xs (i + 1))]) rfl (fun r hp => ?_)
  subst hp
  refine lv_aload_n S.1 S.2.1 dL_law_260 rfl (lv_at hl 2 rfl) ?_
  refine lv_aload_n S.1 S.2.1 dL_law_261 rfl (lv_at hl 0 rfl) ?_
  refine lv_iload_n S.1 S.2.1 dL_law_262 rfl (lv_at hl 3 rfl) ?_
  refine lv_iconst (v := nI 1) S.1 S.2.1 dL_law_263 (by decide) ?_
  refine lv_iadd S.1 S.2.1 dL_law_264 ?_
  refine qf_top (nI_add _ _) ?_
  refine la_ld S.1 S.2.1 hX hbl hS (by omega) hL dL_law_265 ?_
  refine qm_callR S hK2 hQ (met_msize l dC dI dA' g' a (xs (i + 1)) ) (lw_V q229 q230 q231 q22 q232) rfl rfl (by decide +kernel) ⟨Nat.le_of_ble_eq_true rfl, Nat.le_of_ble_eq_true rfl⟩ (n := 1) rfl hl.1 (Nat.le_of_ble_eq_true rfl) dL_law_266 ⟨Nat.le_of_ble_eq_true rfl, Nat.le_of_ble_eq_true rfl⟩ (As := [.int (xs (i + 1))]) rfl (fun r hp => ?_)
  subst hp
  refine lv_icmp_eq (tgt := 422) S.1 S.2.1 dL_law_269 (by decide) (fun _ => ?_) (fun h => absurd rfl h)
  exact kk _ _ _ _ ⟨hP, hQ, hS, hG⟩
set_option maxHeartbeats 4000000 in
set_option maxRecDepth 100000 in
theorem la_print (S : CallFix p m c code 4 s #[Value.ref b] lw_all "QuotientFilterLaw") (E : la_E s b L xs dC dI g g' dA dA') (hi : i + 3 ≤ L) (I : la_I s dC dI g g' dA dA' u a H locs) (hl : lv_has ls 4 [(0, .ref b), (1, .ref (g 0)), (2, .ref (g' 0)), (3, .int (nI i))]) (kk : ∀ (u1 : qf_QS) (a1 : qa_S) (H1 : Heap) (locs1 : List Loc), la_I s dC dI g g' dA dA' u1 a1 H1 locs1 → W p l e room_1 s m #[Value.ref b] below meth c H1 locs1 11 1104 Q (F0 m 422 ls [])) : W p l e room_1 s m #[Value.ref b] below meth c H locs 11 1104 Q (F0 m 274 ls []) := by
  obtain ⟨hX, hbl, hL, hK1, hK2, hg, hg', hA1, hA2, hap⟩ := E
  obtain ⟨hP, hQ, hS, hG⟩ := I
  have hok := qf_good_ok hG
  refine lv_aload_n S.1 S.2.1 dL_law_274 rfl (lv_at hl 1 rfl) ?_
  refine lv_aload_n S.1 S.2.1 dL_law_275 rfl (lv_at hl 0 rfl) ?_
  refine lv_iload_n S.1 S.2.1 dL_law_276 rfl (lv_at hl 3 rfl) ?_
  refine lv_iconst (v := nI 1) S.1 S.2.1 dL_law_277 (by decide) ?_
  refine lv_iadd S.1 S.2.1 dL_law_278 ?_
  refine qf_top (nI_add _ _) ?_
  refine la_ld S.1 S.2.1 hX hbl hS (by omega) hL dL_law_279 ?_
  refine lv_aload_n S.1 S.2.1 dL_law_280 rfl (lv_at hl 0 rfl) ?_
  refine lv_iload_n S.1 S.2.1 dL_law_281 rfl (lv_at hl 3 rfl) ?_
  refine lv_iconst (v := nI 2) S.1 S.2.1 dL_law_282 (by decide) ?_
  refine lv_iadd S.1 S.2.1 dL_law_283 ?_
  refine qf_top (nI_add _ _) ?_
  refine la_ld S.1 S.2.1 hX hbl hS (by omega) hL dL_law_284 ?_
  refine qf_calli S hK1 hP hS hA1 (met_print l dC dI dA g u a (xs (i + 1)) (xs (i + 2)) hg hG) (lw_V q152 q153 q154 q21 q155) rfl rfl (by decide +kernel) ⟨Nat.le_of_ble_eq_true rfl, Nat.le_of_ble_eq_true rfl⟩ (n := 2) rfl hl.1 (Nat.le_of_ble_eq_true rfl) dL_law_285 ⟨Nat.le_of_ble_eq_true rfl, Nat.le_of_ble_eq_true rfl⟩ (As := [.int (xs (i + 1)), .int (xs (i + 2))]) rfl (fun r u1 H locs hp hP hS hz hk => ?_)
  obtain ⟨rfl, hG⟩ := hp
  have hQ := la_keepQ hap hQ hk
  refine lv_aload_n S.1 S.2.1 dL_law_288 rfl (lv_at hl 2 rfl) ?_
  refine lv_aload_n S.1 S.2.1 dL_law_289 rfl (lv_at hl 0 rfl) ?_
  refine lv_iload_n S.1 S.2.1 dL_law_290 rfl (lv_at hl 3 rfl) ?_
  refine lv_iconst (v := nI 1) S.1 S.2.1 dL_law_291 (by decide) ?_
  refine lv_iadd S.1 S.2.1 dL_law_292 ?_
  refine qf_top (nI_add _ _) ?_
  refine la_ld S.1 S.2.1 hX hbl hS (by omega) hL dL_law_293 ?_
  refine lv_aload_n S.1 S.2.1 dL_law_294 rfl (lv_at hl 0 rfl) ?_
  refine lv_iload_n S.1 S.2.1 dL_law_295 rfl (lv_at hl 3 rfl) ?_
  refine lv_iconst (v := nI 2) S.1 S.2.1 dL_law_296 (by decide) ?_
  refine lv_iadd S.1 S.2.1 dL_law_297 ?_
  refine qf_top (nI_add _ _) ?_
  refine la_ld S.1 S.2.1 hX hbl hS (by omega) hL dL_law_298 ?_
  refine qm_callR S hK2 hQ (met_mprint l dC dI dA' g' a (xs (i + 1)) (xs (i + 2)) hok) (lw_V q233 q234 q235 q22 q236) rfl rfl (by decide +kernel) ⟨Nat.le_of_ble_eq_true rfl, Nat.le_of_ble_eq_true rfl⟩ (n := 2) rfl hl.1 (Nat.le_of_ble_eq_true rfl) dL_law_299 ⟨Nat.le_of_ble_eq_true rfl, Nat.le_of_ble_eq_true rfl⟩ (As := [.int (xs (i + 1)), .int (xs (i + 2))]) rfl (fun r hp => ?_)
  subst hp
  refine lv_icmp_eq (tgt := 422) S.1 S.2.1 dL_law_302 (by decide) (fun _ => ?_) (fun h => absurd rfl h)
  exact kk _ _ _ _ ⟨hP, hQ, hS, hG⟩
set_option maxHeartbeats 4000000 in
set_option maxRecDepth 100000 in
theorem la_grow (S : CallFix p m c code 4 s #[Value.ref b] lw_all "QuotientFilterLaw") (E : la_E s b L xs dC dI g g' dA dA') (hi : i + 3 ≤ L) (I : la_I s dC dI g g' dA dA' u a H locs) (hl : lv_has ls 4 [(0, .ref b), (1, .ref (g 0)), (2, .ref (g' 0)), (3, .int (nI i))]) (kk : ∀ (u1 : qf_QS) (a1 : qa_S) (H1 : Heap) (locs1 : List Loc), la_I s dC dI g g' dA dA' u1 a1 H1 locs1 → W p l e room_1 s m #[Value.ref b] below meth c H1 locs1 11 1104 Q (F0 m 422 ls [])) : W p l e room_1 s m #[Value.ref b] below meth c H locs 11 1104 Q (F0 m 307 ls []) := by
  obtain ⟨hX, hbl, hL, hK1, hK2, hg, hg', hA1, hA2, hap⟩ := E
  obtain ⟨hP, hQ, hS, hG⟩ := I
  have hok := qf_good_ok hG
  refine lv_aload_n S.1 S.2.1 dL_law_307 rfl (lv_at hl 1 rfl) ?_
  refine lv_aload_n S.1 S.2.1 dL_law_308 rfl (lv_at hl 0 rfl) ?_
  refine lv_iload_n S.1 S.2.1 dL_law_309 rfl (lv_at hl 3 rfl) ?_
  refine lv_iconst (v := nI 1) S.1 S.2.1 dL_law_310 (by decide) ?_
  refine lv_iadd S.1 S.2.1 dL_law_311 ?_
  refine qf_top (nI_add _ _) ?_
  refine la_ld S.1 S.2.1 hX hbl hS (by omega) hL dL_law_312 ?_
  refine qf_calli S hK1 hP hS hA1 (met_grow l dC dI dA g u a (xs (i + 1)) hg hG) (lw_V q160 q161 q162 q21 q163) rfl rfl (by decide +kernel) ⟨Nat.le_of_ble_eq_true rfl, Nat.le_of_ble_eq_true rfl⟩ (n := 1) rfl hl.1 (Nat.le_of_ble_eq_true rfl) dL_law_313 ⟨Nat.le_of_ble_eq_true rfl, Nat.le_of_ble_eq_true rfl⟩ (As := [.int (xs (i + 1))]) rfl (fun r u1 H locs hp hP hS hz hk => ?_)
  obtain ⟨rfl, hG⟩ := hp
  have hQ := la_keepQ hap hQ hk
  refine lv_aload_n S.1 S.2.1 dL_law_316 rfl (lv_at hl 2 rfl) ?_
  refine lv_aload_n S.1 S.2.1 dL_law_317 rfl (lv_at hl 0 rfl) ?_
  refine lv_iload_n S.1 S.2.1 dL_law_318 rfl (lv_at hl 3 rfl) ?_
  refine lv_iconst (v := nI 1) S.1 S.2.1 dL_law_319 (by decide) ?_
  refine lv_iadd S.1 S.2.1 dL_law_320 ?_
  refine qf_top (nI_add _ _) ?_
  refine la_ld S.1 S.2.1 hX hbl hS (by omega) hL dL_law_321 ?_
  refine qm_calli S hK2 hQ hS hA2 (met_mgrow l dC dI dA' g' a (xs (i + 1)) hg' hok) (lw_V q237 q238 q239 q22 q240) rfl rfl (by decide +kernel) ⟨Nat.le_of_ble_eq_true rfl, Nat.le_of_ble_eq_true rfl⟩ (n := 1) rfl hl.1 (Nat.le_of_ble_eq_true rfl) dL_law_322 ⟨Nat.le_of_ble_eq_true rfl, Nat.le_of_ble_eq_true rfl⟩ (As := [.int (xs (i + 1))]) rfl (fun r a1 H locs hp hQ hS hz hk => ?_)
  obtain ⟨rfl, rfl⟩ := hp
  have hP := la_keepP hap hP hk
  refine lv_icmp_eq (tgt := 422) S.1 S.2.1 dL_law_325 (by decide) (fun _ => ?_) (fun h => absurd rfl h)
  exact kk _ _ _ _ ⟨hP, hQ, hS, hG⟩
set_option maxHeartbeats 4000000 in
set_option maxRecDepth 100000 in
theorem la_shrink (S : CallFix p m c code 4 s #[Value.ref b] lw_all "QuotientFilterLaw") (E : la_E s b L xs dC dI g g' dA dA') (hi : i + 3 ≤ L) (I : la_I s dC dI g g' dA dA' u a H locs) (hl : lv_has ls 4 [(0, .ref b), (1, .ref (g 0)), (2, .ref (g' 0)), (3, .int (nI i))]) (kk : ∀ (u1 : qf_QS) (a1 : qa_S) (H1 : Heap) (locs1 : List Loc), la_I s dC dI g g' dA dA' u1 a1 H1 locs1 → W p l e room_1 s m #[Value.ref b] below meth c H1 locs1 11 1104 Q (F0 m 422 ls [])) : W p l e room_1 s m #[Value.ref b] below meth c H locs 11 1104 Q (F0 m 330 ls []) := by
  obtain ⟨hX, hbl, hL, hK1, hK2, hg, hg', hA1, hA2, hap⟩ := E
  obtain ⟨hP, hQ, hS, hG⟩ := I
  have hok := qf_good_ok hG
  refine lv_aload_n S.1 S.2.1 dL_law_330 rfl (lv_at hl 1 rfl) ?_
  refine lv_aload_n S.1 S.2.1 dL_law_331 rfl (lv_at hl 0 rfl) ?_
  refine lv_iload_n S.1 S.2.1 dL_law_332 rfl (lv_at hl 3 rfl) ?_
  refine lv_iconst (v := nI 1) S.1 S.2.1 dL_law_333 (by decide) ?_
  refine lv_iadd S.1 S.2.1 dL_law_334 ?_
  refine qf_top (nI_add _ _) ?_
  refine la_ld S.1 S.2.1 hX hbl hS (by omega) hL dL_law_335 ?_
  refine qf_calli S hK1 hP hS hA1 (met_shrink l dC dI dA g u a (xs (i + 1)) hg hG) (lw_V q172 q173 q174 q21 q175) rfl rfl (by decide +kernel) ⟨Nat.le_of_ble_eq_true rfl, Nat.le_of_ble_eq_true rfl⟩ (n := 1) rfl hl.1 (Nat.le_of_ble_eq_true rfl) dL_law_336 ⟨Nat.le_of_ble_eq_true rfl, Nat.le_of_ble_eq_true rfl⟩ (As := [.int (xs (i + 1))]) rfl (fun r u1 H locs hp hP hS hz hk => ?_)
  obtain ⟨rfl, hG⟩ := hp
  have hQ := la_keepQ hap hQ hk
  refine lv_aload_n S.1 S.2.1 dL_law_339 rfl (lv_at hl 2 rfl) ?_
  refine lv_aload_n S.1 S.2.1 dL_law_340 rfl (lv_at hl 0 rfl) ?_
  refine lv_iload_n S.1 S.2.1 dL_law_341 rfl (lv_at hl 3 rfl) ?_
  refine lv_iconst (v := nI 1) S.1 S.2.1 dL_law_342 (by decide) ?_
  refine lv_iadd S.1 S.2.1 dL_law_343 ?_
  refine qf_top (nI_add _ _) ?_
  refine la_ld S.1 S.2.1 hX hbl hS (by omega) hL dL_law_344 ?_
  refine qm_calli S hK2 hQ hS hA2 (met_mshrink l dC dI dA' g' a (xs (i + 1)) hg' hok) (lw_V q241 q242 q243 q22 q244) rfl rfl (by decide +kernel) ⟨Nat.le_of_ble_eq_true rfl, Nat.le_of_ble_eq_true rfl⟩ (n := 1) rfl hl.1 (Nat.le_of_ble_eq_true rfl) dL_law_345 ⟨Nat.le_of_ble_eq_true rfl, Nat.le_of_ble_eq_true rfl⟩ (As := [.int (xs (i + 1))]) rfl (fun r a1 H locs hp hQ hS hz hk => ?_)
  obtain ⟨rfl, rfl⟩ := hp
  have hP := la_keepP hap hP hk
  refine lv_icmp_eq (tgt := 422) S.1 S.2.1 dL_law_348 (by decide) (fun _ => ?_) (fun h => absurd rfl h)
  exact kk _ _ _ _ ⟨hP, hQ, hS, hG⟩
set_option maxHeartbeats 4000000 in
set_option maxRecDepth 100000 in
theorem la_pour (S : CallFix p m c code 4 s #[Value.ref b] lw_all "QuotientFilterLaw") (E : la_E s b L xs dC dI g g' dA dA') (hi : i + 3 ≤ L) (I : la_I s dC dI g g' dA dA' u a H locs) (hl : lv_has ls 4 [(0, .ref b), (1, .ref (g 0)), (2, .ref (g' 0)), (3, .int (nI i))]) (kk : ∀ (u1 : qf_QS) (a1 : qa_S) (H1 : Heap) (locs1 : List Loc), la_I s dC dI g g' dA dA' u1 a1 H1 locs1 → W p l e room_1 s m #[Value.ref b] below meth c H1 locs1 11 1104 Q (F0 m 422 ls [])) : W p l e room_1 s m #[Value.ref b] below meth c H locs 11 1104 Q (F0 m 353 ls []) := by
  obtain ⟨hX, hbl, hL, hK1, hK2, hg, hg', hA1, hA2, hap⟩ := E
  obtain ⟨hP, hQ, hS, hG⟩ := I
  have hok := qf_good_ok hG
  refine lv_aload_n S.1 S.2.1 dL_law_353 rfl (lv_at hl 1 rfl) ?_
  refine lv_aload_n S.1 S.2.1 dL_law_354 rfl (lv_at hl 0 rfl) ?_
  refine lv_iload_n S.1 S.2.1 dL_law_355 rfl (lv_at hl 3 rfl) ?_
  refine lv_iconst (v := nI 1) S.1 S.2.1 dL_law_356 (by decide) ?_
  refine lv_iadd S.1 S.2.1 dL_law_357 ?_
  refine qf_top (nI_add _ _) ?_
  refine la_ld S.1 S.2.1 hX hbl hS (by omega) hL dL_law_358 ?_
  refine qf_calli S hK1 hP hS hA1 (met_pour l dC dI dA g u a (xs (i + 1)) hg hG) (lw_V q176 q177 q178 q21 q179) rfl rfl (by decide +kernel) ⟨Nat.le_of_ble_eq_true rfl, Nat.le_of_ble_eq_true rfl⟩ (n := 1) rfl hl.1 (Nat.le_of_ble_eq_true rfl) dL_law_359 ⟨Nat.le_of_ble_eq_true rfl, Nat.le_of_ble_eq_true rfl⟩ (As := [.int (xs (i + 1))]) rfl (fun r u1 H locs hp hP hS hz hk => ?_)
  obtain ⟨rfl, hG⟩ := hp
  have hQ := la_keepQ hap hQ hk
  refine lv_aload_n S.1 S.2.1 dL_law_362 rfl (lv_at hl 2 rfl) ?_
  refine lv_aload_n S.1 S.2.1 dL_law_363 rfl (lv_at hl 0 rfl) ?_
  refine lv_iload_n S.1 S.2.1 dL_law_364 rfl (lv_at hl 3 rfl) ?_
  refine lv_iconst (v := nI 1) S.1 S.2.1 dL_law_365 (by decide) ?_
  refine lv_iadd S.1 S.2.1 dL_law_366 ?_
  refine qf_top (nI_add _ _) ?_
  refine la_ld S.1 S.2.1 hX hbl hS (by omega) hL dL_law_367 ?_
  refine qm_calli S hK2 hQ hS hA2 (met_mpour l dC dI dA' g' a (xs (i + 1)) hg' hok) (lw_V q245 q246 q247 q22 q248) rfl rfl (by decide +kernel) ⟨Nat.le_of_ble_eq_true rfl, Nat.le_of_ble_eq_true rfl⟩ (n := 1) rfl hl.1 (Nat.le_of_ble_eq_true rfl) dL_law_368 ⟨Nat.le_of_ble_eq_true rfl, Nat.le_of_ble_eq_true rfl⟩ (As := [.int (xs (i + 1))]) rfl (fun r a1 H locs hp hQ hS hz hk => ?_)
  obtain ⟨rfl, rfl⟩ := hp
  have hP := la_keepP hap hP hk
  refine lv_icmp_eq (tgt := 422) S.1 S.2.1 dL_law_371 (by decide) (fun _ => ?_) (fun h => absurd rfl h)
  exact kk _ _ _ _ ⟨hP, hQ, hS, hG⟩
set_option maxHeartbeats 4000000 in
set_option maxRecDepth 100000 in
theorem la_clear (S : CallFix p m c code 4 s #[Value.ref b] lw_all "QuotientFilterLaw") (E : la_E s b L xs dC dI g g' dA dA') (hi : i + 3 ≤ L) (I : la_I s dC dI g g' dA dA' u a H locs) (hl : lv_has ls 4 [(0, .ref b), (1, .ref (g 0)), (2, .ref (g' 0)), (3, .int (nI i))]) (kk : ∀ (u1 : qf_QS) (a1 : qa_S) (H1 : Heap) (locs1 : List Loc), la_I s dC dI g g' dA dA' u1 a1 H1 locs1 → W p l e room_1 s m #[Value.ref b] below meth c H1 locs1 11 1104 Q (F0 m 422 ls [])) : W p l e room_1 s m #[Value.ref b] below meth c H locs 11 1104 Q (F0 m 376 ls []) := by
  obtain ⟨hX, hbl, hL, hK1, hK2, hg, hg', hA1, hA2, hap⟩ := E
  obtain ⟨hP, hQ, hS, hG⟩ := I
  have hok := qf_good_ok hG
  refine lv_aload_n S.1 S.2.1 dL_law_376 rfl (lv_at hl 1 rfl) ?_
  refine lv_aload_n S.1 S.2.1 dL_law_377 rfl (lv_at hl 0 rfl) ?_
  refine lv_iload_n S.1 S.2.1 dL_law_378 rfl (lv_at hl 3 rfl) ?_
  refine lv_iconst (v := nI 1) S.1 S.2.1 dL_law_379 (by decide) ?_
  refine lv_iadd S.1 S.2.1 dL_law_380 ?_
  refine qf_top (nI_add _ _) ?_
  refine la_ld S.1 S.2.1 hX hbl hS (by omega) hL dL_law_381 ?_
  refine qf_calli S hK1 hP hS hA1 (met_clear l dC dI dA g u a (xs (i + 1)) hg hG) (lw_V q180 q181 q182 q21 q183) rfl rfl (by decide +kernel) ⟨Nat.le_of_ble_eq_true rfl, Nat.le_of_ble_eq_true rfl⟩ (n := 1) rfl hl.1 (Nat.le_of_ble_eq_true rfl) dL_law_382 ⟨Nat.le_of_ble_eq_true rfl, Nat.le_of_ble_eq_true rfl⟩ (As := [.int (xs (i + 1))]) rfl (fun r u1 H locs hp hP hS hz hk => ?_)
  obtain ⟨rfl, hG⟩ := hp
  have hQ := la_keepQ hap hQ hk
  refine lv_aload_n S.1 S.2.1 dL_law_385 rfl (lv_at hl 2 rfl) ?_
  refine lv_aload_n S.1 S.2.1 dL_law_386 rfl (lv_at hl 0 rfl) ?_
  refine lv_iload_n S.1 S.2.1 dL_law_387 rfl (lv_at hl 3 rfl) ?_
  refine lv_iconst (v := nI 1) S.1 S.2.1 dL_law_388 (by decide) ?_
  refine lv_iadd S.1 S.2.1 dL_law_389 ?_
  refine qf_top (nI_add _ _) ?_
  refine la_ld S.1 S.2.1 hX hbl hS (by omega) hL dL_law_390 ?_
  refine qm_calli S hK2 hQ hS hA2 (met_mclear l dC dI dA' g' a (xs (i + 1)) hg') (lw_V q249 q250 q251 q22 q252) rfl rfl (by decide +kernel) ⟨Nat.le_of_ble_eq_true rfl, Nat.le_of_ble_eq_true rfl⟩ (n := 1) rfl hl.1 (Nat.le_of_ble_eq_true rfl) dL_law_391 ⟨Nat.le_of_ble_eq_true rfl, Nat.le_of_ble_eq_true rfl⟩ (As := [.int (xs (i + 1))]) rfl (fun r a1 H locs hp hQ hS hz hk => ?_)
  obtain ⟨rfl, rfl⟩ := hp
  have hP := la_keepP hap hP hk
  refine lv_icmp_eq (tgt := 422) S.1 S.2.1 dL_law_394 (by decide) (fun _ => ?_) (fun h => absurd rfl h)
  exact kk _ _ _ _ ⟨hP, hQ, hS, hG⟩
set_option maxHeartbeats 4000000 in
set_option maxRecDepth 100000 in
theorem la_printOf (S : CallFix p m c code 4 s #[Value.ref b] lw_all "QuotientFilterLaw") (E : la_E s b L xs dC dI g g' dA dA') (hi : i + 3 ≤ L) (I : la_I s dC dI g g' dA dA' u a H locs) (hl : lv_has ls 4 [(0, .ref b), (1, .ref (g 0)), (2, .ref (g' 0)), (3, .int (nI i))]) (kk : ∀ (u1 : qf_QS) (a1 : qa_S) (H1 : Heap) (locs1 : List Loc), la_I s dC dI g g' dA dA' u1 a1 H1 locs1 → W p l e room_1 s m #[Value.ref b] below meth c H1 locs1 11 1104 Q (F0 m 422 ls [])) : W p l e room_1 s m #[Value.ref b] below meth c H locs 11 1104 Q (F0 m 399 ls []) := by
  obtain ⟨hX, hbl, hL, hK1, hK2, hg, hg', hA1, hA2, hap⟩ := E
  obtain ⟨hP, hQ, hS, hG⟩ := I
  have hok := qf_good_ok hG
  refine lv_aload_n S.1 S.2.1 dL_law_399 rfl (lv_at hl 1 rfl) ?_
  refine lv_aload_n S.1 S.2.1 dL_law_400 rfl (lv_at hl 0 rfl) ?_
  refine lv_iload_n S.1 S.2.1 dL_law_401 rfl (lv_at hl 3 rfl) ?_
  refine lv_iconst (v := nI 1) S.1 S.2.1 dL_law_402 (by decide) ?_
  refine lv_iadd S.1 S.2.1 dL_law_403 ?_
  refine qf_top (nI_add _ _) ?_
  refine la_ld S.1 S.2.1 hX hbl hS (by omega) hL dL_law_404 ?_
  refine qf_callR S hK1 hP (met_printOf l dC dI dA g u (xs (i + 1))) (lw_V q184 q72 q73 q21 q74) rfl rfl (by decide +kernel) ⟨Nat.le_of_ble_eq_true rfl, Nat.le_of_ble_eq_true rfl⟩ (n := 1) rfl hl.1 (Nat.le_of_ble_eq_true rfl) dL_law_405 ⟨Nat.le_of_ble_eq_true rfl, Nat.le_of_ble_eq_true rfl⟩ (As := [.int (xs (i + 1))]) rfl (fun r hp => ?_)
  subst hp
  refine lv_aload_n S.1 S.2.1 dL_law_408 rfl (lv_at hl 2 rfl) ?_
  refine lv_aload_n S.1 S.2.1 dL_law_409 rfl (lv_at hl 0 rfl) ?_
  refine lv_iload_n S.1 S.2.1 dL_law_410 rfl (lv_at hl 3 rfl) ?_
  refine lv_iconst (v := nI 1) S.1 S.2.1 dL_law_411 (by decide) ?_
  refine lv_iadd S.1 S.2.1 dL_law_412 ?_
  refine qf_top (nI_add _ _) ?_
  refine la_ld S.1 S.2.1 hX hbl hS (by omega) hL dL_law_413 ?_
  refine qm_callR S hK2 hQ (met_mprintOf l dC dI dA' g' a (xs (i + 1)) ) (lw_V q253 q212 q213 q22 q214) rfl rfl (by decide +kernel) ⟨Nat.le_of_ble_eq_true rfl, Nat.le_of_ble_eq_true rfl⟩ (n := 1) rfl hl.1 (Nat.le_of_ble_eq_true rfl) dL_law_414 ⟨Nat.le_of_ble_eq_true rfl, Nat.le_of_ble_eq_true rfl⟩ (As := [.int (xs (i + 1))]) rfl (fun r hp => ?_)
  subst hp
  refine lv_icmp_eq (tgt := 422) S.1 S.2.1 dL_law_417 (by decide) (fun _ => ?_) (fun h => absurd rfl h)
  exact kk _ _ _ _ ⟨hP, hQ, hS, hG⟩
set_option maxHeartbeats 4000000 in
set_option maxRecDepth 100000 in
/-- THE LAW'S LOOP: at its head, with i ints read -/
theorem la_loop (S : CallFix p m c code 4 s #[Value.ref b] lw_all "QuotientFilterLaw") (E : la_E s b L xs dC dI g g' dA dA') (hr : meth.sig.returnType = ret) (hlocks : meth.locks = false) : ∀ (n i : Nat), i ≤ L → L + 1 ≤ i + n → ∀ (u : qf_QS) (a : qa_S) (H : Heap) (locs : List Loc), la_I s dC dI g g' dA dA' u a H locs → ∀ (ls : Array Slot), lv_has ls 4 [(0, .ref b), (1, .ref (g 0)), (2, .ref (g' 0)), (3, .int (nI i))] → W p l e room_1 s m #[Value.ref b] below meth c H locs 11 1104 (lw_Z below #[Value.ref b] s) (F0 m 18 ls []) := by
  intro n
  induction n with
  | zero =>
    intro i h1 h2
    exact absurd h2 (by omega)
  | succ n ih =>
    intro i hi hin u a H locs I ls hl
    obtain ⟨hX, hbl, hL, -⟩ := id E
    have hS := I.2.2.1
    refine lv_iload_n S.1 S.2.1 dL_law_18 rfl (lv_at hl 3 rfl) ?_
    refine lv_aload_n S.1 S.2.1 dL_law_19 rfl (lv_at hl 0 rfl) ?_
    refine va_slen (A := la_A s) S.1 S.2.1 hX hbl (Nat.not_le.mpr hbl) hS dL_law_20 ?_
    refine lv_iconst (v := nI 3) S.1 S.2.1 dL_law_21 (by decide) ?_
    refine lv_isub S.1 S.2.1 dL_law_22 ?_
    refine lv_icmp_gt (tgt := 428) S.1 S.2.1 dL_law_23 (by decide) (fun h => ?_) (fun h => ?_)
    · refine lv_iconst (v := 1) S.1 S.2.1 dL_law_428 (by decide) ?_
      refine va_forget (fun q hq => hS.2.2 q hq) ?_
      refine W.widen (k := 600000) (n := 7290000) (Nat.le_of_ble_eq_true rfl) (Nat.le_of_ble_eq_true rfl) ?_
      exact lw_ret S.1 S.2.1 hr hlocks dL_law_429
    · have h3 : i + 3 ≤ L := la_cmp hL hi h
      refine lv_aload_n S.1 S.2.1 dL_law_26 rfl (lv_at hl 0 rfl) ?_
      refine lv_iload_n S.1 S.2.1 dL_law_27 rfl (lv_at hl 3 rfl) ?_
      refine la_ld S.1 S.2.1 hX hbl hS (by omega) hL dL_law_28 ?_
      refine lv_bipush (v := nI 15) S.1 S.2.1 dL_law_29 (by decide) ?_
      refine lv_iand S.1 S.2.1 dL_law_31 ?_
      obtain ⟨k, hk, ek⟩ := pk_andE (xs i) (m := nI 15) 4 (by decide)
      refine qf_top ek ?_
      have kk : ∀ (u1 : qf_QS) (a1 : qa_S) (H1 : Heap) (locs1 : List Loc), la_I s dC dI g g' dA dA' u1 a1 H1 locs1 → W p l e room_1 s m #[Value.ref b] below meth c H1 locs1 11 1104 (lw_Z below #[Value.ref b] s) (F0 m 422 ls []) := by
        intro u1 a1 H1 locs1 I1
        refine lv_iinc (v := nI (i + 3)) (lv' := [(3, .int (nI (i + 3))), (0, .ref b), (1, .ref (g 0)), (2, .ref (g' 0))]) S.1 S.2.1 dL_law_422 hl (k := 3) rfl (by rw [show Int32.ofInt 3 = nI 3 from by decide]; exact nI_add _ 3) (by decide) rfl (fun ls hl => ?_)
        refine lv_goto (tgt := 18) S.1 S.2.1 dL_law_425 (by decide) ?_
        exact ih (i + 3) h3 (by omega) u1 a1 H1 locs1 I1 ls (lv_sub hl [1, 2, 3, 0] rfl)
      have hk16 : k < 16 := hk
      rcases (show k = 0 ∨ k = 1 ∨ k = 2 ∨ k = 3 ∨ k = 4 ∨ k = 5 ∨ k = 6 ∨ k = 7 ∨ k = 8 ∨ k = 9 ∨ k = 10 ∨ k = 11 ∨ 12 ≤ k by omega) with ek0 | ek0 | ek0 | ek0 | ek0 | ek0 | ek0 | ek0 | ek0 | ek0 | ek0 | ek0 | ek0
      · subst ek0
        refine lv_tableIn (off := 64) (tgt := 96) S.1 S.2.1 dL_law_32 (by decide) (by decide) (by decide) (by decide) ?_
        exact la_add S E h3 I hl kk
      · subst ek0
        refine lv_tableIn (off := 97) (tgt := 129) S.1 S.2.1 dL_law_32 (by decide) (by decide) (by decide) (by decide) ?_
        exact la_remove S E h3 I hl kk
      · subst ek0
        refine lv_tableIn (off := 130) (tgt := 162) S.1 S.2.1 dL_law_32 (by decide) (by decide) (by decide) (by decide) ?_
        exact la_maybe S E h3 I hl kk
      · subst ek0
        refine lv_tableIn (off := 163) (tgt := 195) S.1 S.2.1 dL_law_32 (by decide) (by decide) (by decide) (by decide) ?_
        exact la_times S E h3 I hl kk
      · subst ek0
        refine lv_tableIn (off := 196) (tgt := 228) S.1 S.2.1 dL_law_32 (by decide) (by decide) (by decide) (by decide) ?_
        exact la_count S E h3 I hl kk
      · subst ek0
        refine lv_tableIn (off := 219) (tgt := 251) S.1 S.2.1 dL_law_32 (by decide) (by decide) (by decide) (by decide) ?_
        exact la_size S E h3 I hl kk
      · subst ek0
        refine lv_tableIn (off := 242) (tgt := 274) S.1 S.2.1 dL_law_32 (by decide) (by decide) (by decide) (by decide) ?_
        exact la_print S E h3 I hl kk
      · subst ek0
        refine lv_tableIn (off := 275) (tgt := 307) S.1 S.2.1 dL_law_32 (by decide) (by decide) (by decide) (by decide) ?_
        exact la_grow S E h3 I hl kk
      · subst ek0
        refine lv_tableIn (off := 298) (tgt := 330) S.1 S.2.1 dL_law_32 (by decide) (by decide) (by decide) (by decide) ?_
        exact la_shrink S E h3 I hl kk
      · subst ek0
        refine lv_tableIn (off := 321) (tgt := 353) S.1 S.2.1 dL_law_32 (by decide) (by decide) (by decide) (by decide) ?_
        exact la_pour S E h3 I hl kk
      · subst ek0
        refine lv_tableIn (off := 344) (tgt := 376) S.1 S.2.1 dL_law_32 (by decide) (by decide) (by decide) (by decide) ?_
        exact la_clear S E h3 I hl kk
      · subst ek0
        refine lv_tableIn (off := 367) (tgt := 399) S.1 S.2.1 dL_law_32 (by decide) (by decide) (by decide) (by decide) ?_
        exact la_printOf S E h3 I hl kk
      · refine lv_tableOut (tgt := 422) S.1 S.2.1 dL_law_32 (Or.inr (by rw [nI_toInt (by omega)]; omega)) (by decide) ?_
        exact kk u a H locs I
end LAW
end
section
/-! THE LAW, from its entry: two objects are made, then its loop -/
theorem la_apart {A : Nat → Prop} {g g' : Nat → Nat} {dA dA' : Nat → ClassId} {u : qf_QS} {a : qa_S} (hD : va_D A (qf_w g dA u ++ qm_w g' dA' a)) : qf_dj g ∧ qm_dj g' ∧ (∀ q, qf_A g q → A q) ∧ (∀ q, qm_A g' q → A q) ∧ (∀ i j, i < 8 → j < 3 → g i ≠ g' j) := by
  have at1 : ∀ k, k < 8 → ∃ q, (qf_w g dA u ++ qm_w g' dA' a)[k]? = some q ∧ q.1 = g k := by
    intro k hk
    match k, hk with
    | 0, _ => exact ⟨_, rfl, rfl⟩
    | 1, _ => exact ⟨_, rfl, rfl⟩
    | 2, _ => exact ⟨_, rfl, rfl⟩
    | 3, _ => exact ⟨_, rfl, rfl⟩
    | 4, _ => exact ⟨_, rfl, rfl⟩
    | 5, _ => exact ⟨_, rfl, rfl⟩
    | 6, _ => exact ⟨_, rfl, rfl⟩
    | 7, _ => exact ⟨_, rfl, rfl⟩
    | k + 8, hk => omega
  have at2 : ∀ k, k < 3 → ∃ q, (qf_w g dA u ++ qm_w g' dA' a)[k + 8]? = some q ∧ q.1 = g' k := by
    intro k hk
    match k, hk with
    | 0, _ => exact ⟨_, rfl, rfl⟩
    | 1, _ => exact ⟨_, rfl, rfl⟩
    | 2, _ => exact ⟨_, rfl, rfl⟩
    | k + 3, hk => omega
  refine ⟨fun i j hi hj e => ?_, fun i j hi hj e => ?_, fun q h => ?_, fun q h => ?_, fun i j hi hj e => ?_⟩
  · obtain ⟨x, x1, x2⟩ := at1 i hi
    obtain ⟨y, y1, y2⟩ := at1 j hj
    exact hD.1 i j x y x1 y1 (by rw [x2, y2, e])
  · obtain ⟨x, x1, x2⟩ := at2 i hi
    obtain ⟨y, y1, y2⟩ := at2 j hj
    have := hD.1 (i + 8) (j + 8) x y x1 y1 (by rw [x2, y2, e])
    omega
  · obtain ⟨k, k8, e⟩ := h
    obtain ⟨x, x1, x2⟩ := at1 k k8
    rw [e, ← x2]
    exact hD.2 k x x1
  · obtain ⟨k, k3, e⟩ := h
    obtain ⟨x, x1, x2⟩ := at2 k k3
    rw [e, ← x2]
    exact hD.2 (k + 8) x x1
  · obtain ⟨x, x1, x2⟩ := at1 i hi
    obtain ⟨y, y1, y2⟩ := at2 j hj
    have := hD.1 i (j + 8) x y x1 y1 (by rw [x2, y2, e])
    omega
set_option maxHeartbeats 4000000 in
set_option maxRecDepth 100000 in
/-- from the entry, for every script of at most 192 ints, the law comes to its end with true -/
theorem whole_start {p : Program} {e : Env} {s : State} {m : MethodId} {below : List Frame} {meth : Method} {c : Code} (l : Launch) {b L : Nat} {xs : Nat → Int32} (hL : L ≤ 192) (C0 : lw_At p s m meth c b L xs) : W p l e room_1 s m #[Value.ref b] below meth c s.heap [] 0 0 (lw_Z below #[Value.ref b] s) (entryFrame m ([Value.ref b] : List Value).toArray 4) := by
  obtain ⟨hx, hb, hr, hml, hown, hts0, hX, hbl, hlocks, hgv⟩ := id C0
  have hts : ∀ w ∈ lw_all, w.before #[Value.ref b] s = true := fun w h => hts0 w (lw_all_tbl h)
  have S : CallFix p m c code 4 s #[Value.ref b] lw_all "QuotientFilterLaw" := ⟨hx, hb, hml, hown, hts⟩
  have hA : ∀ q : Nat, s.heap.size ≤ q → la_A s q := fun _ h => h
  obtain ⟨c0, iS0, hKn0⟩ := u_known (C := RX0) (T := TX0) (N := 8) (n := 8) hts in_X0 (hts _ q24)
  obtain ⟨c1, iS1, hKn1⟩ := u_known (C := RX1) (T := TX1) (N := 2) (n := 2) hts in_X1 (hts _ q186)
  obtain ⟨dC, dI, hKc⟩ : ∃ (dC : Nat → ClassId) (dI : Nat → Nat → Nat), ∀ (k : Nat) (q : vw_C), qf_cl[k]? = some q → u_Kn s q.1 q.2.1 q.2.2 (dC k) (dI k) := by
    refine ⟨fun k => if k = 0 then c0 else c1, fun k => if k = 0 then iS0 else iS1, ?_⟩
    intro k q hq
    match k, hq with
    | 0, hq => cases hq; exact hKn0
    | 1, hq => cases hq; exact hKn1
    | k + 2, hq => simp [qf_cl] at hq
  have hS : va_S (la_A s) s.heap s.heap [] := va_S.rf
  have hK : va_K (dC, dI) qf_cl [] s := ⟨hKc, fun k q h => by simp at h⟩
  have hP : va_P (dC, dI) qf_cl [] s.heap := fun k q h => by simp at h
  have hD : va_D (la_A s) [] := ⟨fun i j p q h => by simp at h, fun k q h => by simp at h⟩
  have hl := lv_entry ([.ref b]) (n := 4) (Nat.le_of_ble_eq_true rfl)
  rw [lg_entry_eq]
  generalize (lg_sl ([.ref b]) ++ List.replicate (4 - (lg_sl ([.ref b])).length) Slot.unset).toArray = ls at hl ⊢
  have hl : lv_has ls 4 [(0, .ref b)] := hl
  refine va_new (ci := 0) (fs := qf_fs0) (C := RX0) (T := TX0) (N := 8) hx hb hts in_X0 tyX0 tyX0_ok hown (hts _ q23) (hts _ q24) (hts _ q21) hK hP hD hS hA rfl (fun j hj => by rcases (show j = 0 ∨ j = 1 ∨ j = 2 ∨ j = 3 ∨ j = 4 ∨ j = 5 ∨ j = 6 ∨ j = 7 by omega) with rfl | rfl | rfl | rfl | rfl | rfl | rfl | rfl <;> rfl) (Nat.le_of_ble_eq_true rfl) (Nat.le_of_ble_eq_true rfl) dL_law_0 (fun q0 H hP hD hS => ?_)
  have hP : va_P (dC, dI) qf_cl [(q0, .inr (0, qf_fs0))] H := hP
  have hD : va_D (la_A s) [(q0, .inr (0, qf_fs0))] := hD
  refine W.widen (k := 1) (n := 8) (Nat.le_of_ble_eq_true rfl) (Nat.le_of_ble_eq_true rfl) ?_
  refine lv_dup hx hb dL_law_3 rfl ?_
  have hFc := va_free (wc := [(q0, .inr (0, qf_fs0))]) hD hS hA [0] rfl
  refine va_callv (va_runI (As := []) (rest := [.ref q0]) S (met_init l dC dI q0 H.size) (cwI 0 hts (lw_meth q27) rfl rfl rfl (hts _ q21) (hts _ q25) (hts _ q26) rfl (by decide +kernel) ⟨Nat.le_of_ble_eq_true rfl, Nat.le_of_ble_eq_true rfl⟩) ⟨fun a U g mk q => by obtain ⟨z0, z1, qP, qK, qD⟩ := q; exact ⟨z0, z1, qP, va_K.moved (u := U) (U := U.calling g mk a) (Vm.Alike.refl U.vm) qK, qD⟩, fun U hU hW => ⟨rfl, by rw [hU], by rw [hU]; exact hP, va_K.moved hW.alike hK, hD.weaken (fun _ _ _ _ => trivial)⟩⟩ rfl rfl hl.1 rfl (lv_room (Nat.le_of_ble_eq_true rfl)) dL_law_4 ⟨Nat.le_of_ble_eq_true rfl, Nat.le_of_ble_eq_true rfl⟩) hS (fun q _ h => hFc q h) hFc (fun v t H1 locs ht hvm hw1 hB hz1 hk1 hS => ?_)
  obtain ⟨g, dA⟩ := v
  have hw1 : g 0 = q0 := hw1
  obtain ⟨hP1, hK1, hD1⟩ := hB
  rw [ht] at hP1
  have hK1 : va_K (dC, dI) qf_cl (qf_tys dA) s := va_K.moved hvm.symm hK1
  have hP : va_P (dC, dI) qf_cl (qf_w g dA qf_u0) H1 := hP1
  have hD : va_D (la_A s) (qf_w g dA qf_u0) := hD1.weaken (fun k q _ h => hFc q.1 h)
  generalize H1 = H at hP hS ⊢
  refine W.widen (k := 8) (n := 588) (Nat.le_of_ble_eq_true rfl) (Nat.le_of_ble_eq_true rfl) ?_
  refine lv_astore_n (lv' := [(1, .ref q0), (0, .ref b)]) hx hb dL_law_7 rfl hl (by decide) rfl (fun ls hl => ?_)
  refine va_new (ci := 1) (fs := qm_fs0) (C := RX1) (T := TX1) (N := 2) hx hb hts in_X1 tyX1 tyX1_ok hown (hts _ q185) (hts _ q186) (hts _ q22) hK hP hD hS hA rfl (fun j hj => by rcases (show j = 0 ∨ j = 1 by omega) with rfl | rfl <;> rfl) (Nat.le_of_ble_eq_true rfl) (Nat.le_of_ble_eq_true rfl) dL_law_8 (fun q1 H hP hD hS => ?_)
  refine W.widen (k := 9) (n := 590) (Nat.le_of_ble_eq_true rfl) (Nat.le_of_ble_eq_true rfl) ?_
  refine lv_dup hx hb dL_law_11 rfl ?_
  have hPc := hP.sub (ws' := [(q1, .inr (1, qm_fs0))]) [8] rfl
  have hDc := hD.sub (ws' := [(q1, .inr (1, qm_fs0))]) [8] (by decide) rfl
  have hFc := va_free (wc := [(q1, .inr (1, qm_fs0))]) hD hS hA [8] rfl
  refine va_callv (va_runI (As := []) (rest := [.ref q1]) S (met_minit l dC dI q1 H.size) (cwI 0 hts (lw_meth q189) rfl rfl rfl (hts _ q22) (hts _ q187) (hts _ q188) rfl (by decide +kernel) ⟨Nat.le_of_ble_eq_true rfl, Nat.le_of_ble_eq_true rfl⟩) ⟨fun a U g mk q => by obtain ⟨z0, z1, qP, qK, qD⟩ := q; exact ⟨z0, z1, qP, va_K.moved (u := U) (U := U.calling g mk a) (Vm.Alike.refl U.vm) qK, qD⟩, fun U hU hW => ⟨rfl, by rw [hU], by rw [hU]; exact hPc, va_K.moved hW.alike hK, hDc.weaken (fun _ _ _ _ => trivial)⟩⟩ rfl rfl hl.1 rfl (lv_room (Nat.le_of_ble_eq_true rfl)) dL_law_12 ⟨Nat.le_of_ble_eq_true rfl, Nat.le_of_ble_eq_true rfl⟩) hS (fun q _ h => hFc q h) hFc (fun v t H1 locs ht hvm hw2 hB hz1 hk1 hS => ?_)
  obtain ⟨g', dA'⟩ := v
  have hw2 : g' 0 = q1 := hw2
  obtain ⟨hP1, hK2, hD1⟩ := hB
  rw [ht] at hP1
  have hK2 : va_K (dC, dI) qf_cl (qm_tys dA') s := va_K.moved hvm.symm hK2
  obtain ⟨hP, hD⟩ := va_join (wr := qf_w g dA qf_u0) (w1 := qm_w g' dA' qa_0) hP hD [8] [0, 1, 2, 3, 4, 5, 6, 7] rfl rfl (by decide) (by decide) hk1 hFc hP1 hD1
  generalize H1 = H at hP hP1 hS ⊢
  refine W.widen (k := 11) (n := 1104) (Nat.le_of_ble_eq_true rfl) (Nat.le_of_ble_eq_true rfl) ?_
  obtain ⟨hg, hg', hA1, hA2, hap⟩ := la_apart hD
  have hP0 : va_P (dC, dI) qf_cl (qf_w g dA qf_u0) H := hP.sub [0, 1, 2, 3, 4, 5, 6, 7] rfl
  subst hw1
  subst hw2
  refine lv_astore_n (lv' := [(2, .ref (g' 0)), (1, .ref (g 0)), (0, .ref b)]) hx hb dL_law_15 rfl hl (by decide) rfl (fun ls hl => ?_)
  refine lv_iconst (v := nI 0) hx hb dL_law_16 (by decide) ?_
  refine lv_istore_n (lv' := [(3, .int (nI 0)), (2, .ref (g' 0)), (1, .ref (g 0)), (0, .ref b)]) hx hb dL_law_17 rfl hl (by decide) rfl (fun ls hl => ?_)
  exact la_loop S ⟨hX, hbl, hL, hK1, hK2, hg, hg', hA1, hA2, hap⟩ hr hlocks (L + 1) 0 (Nat.zero_le L) (by omega) qf_u0 qa_0 H _ ⟨hP0, hP1, hS, qf_good0⟩ ls (lv_sub hl [3, 2, 1, 0] rfl)
end
section
set_option maxHeartbeats 4000000 in
theorem lw_walk (l : Launch) (b : Addr) (xs : List Int32) : MetFree l x (headSpec (Jvm.Cond.code x code maxLocals ret :: tables_1) room_1) (lw_P b xs) (fun _ _ _ _ _ => True) lw_Q := by
  refine MetFree.of_bodyS (code := code) (maxLocals := maxLocals) (ret := ret) (by decide) ?_ ?_
  · intro args s m h hn
    obtain ⟨meth, c, h1, h2, h3, h4, h5, h6, -, -⟩ := Cond.code_spec hn (atoms_spec (ws := Jvm.Cond.code x code maxLocals ret :: tables_1) h _ List.mem_cons_self)
    exact ⟨meth, c, h1, h2, h3, h4, h5, h6⟩
  · intro p e s m args below meth c s₁ B hml0 hP _
    obtain ⟨rfl, hx, hbd, hgv⟩ := hP
    obtain ⟨scr, harrAt, hlist, hof, hsmall⟩ := hx
    obtain ⟨hcb, hkn, -, -⟩ := State.arrayAt?_spec harrAt
    have hown : s.vm.findClass R_law = some m.cls := findClass_of_methodNamed B.named
    have hts0 : ∀ c ∈ (Jvm.Cond.code x code maxLocals ret :: tables_1), c.before #[Value.ref b] s = true := atoms_spec (ws := Jvm.Cond.code x code maxLocals ret :: tables_1) B.pre
    have hts : ∀ w ∈ lw_tbl, w.before #[Value.ref b] s = true := k2_hts_sels lw_privs (fun w hw => hts0 w (List.mem_cons_of_mem _ hw)) lw_privs_ok
    have hml : c.maxLocals = 4 := B.maxLocals_eq (hts0 _ List.mem_cons_self)
    have X₀ : Stand p l e room_1 s m #[Value.ref b] below meth c s₁ [] 0 0 := Stand.of_body B
    have hh0 : s₁.heap = s.heap := by rw [B.state]; rfl
    have hsz : scr.slots.size = xs.length := by rw [← Array.length_toList, hlist, List.length_map]
    have hval : ∀ j : Nat, j < xs.length → scr.slots[j]? = some (.int (xs.getD j 0)) := fun j hj => by
      rw [← Array.getElem?_toList, hlist]
      simp [hj]
    have hbl : b < s.heap.size := (Array.getElem?_eq_some_iff.mp hcb).1
    have hX : va_X b xs.length (fun j => xs.getD j 0) s s.heap := ⟨scr, hcb, hof, hkn, hsz, hval⟩
    have K : W p l e room_1 s m #[Value.ref b] below meth c s₁.heap [] 0 0 (lw_Z below #[Value.ref b] s) (entryFrame m ([Value.ref b] : List Value).toArray 4) := by
      rw [hh0]
      exact whole_start l hbd ⟨B.exec, B.bytes, B.returns, hml, hown, hts, hX, hbl, B.notSynchronized, hgv⟩
    obtain ⟨t, a1, o, b1, b2, b3⟩ := K s₁ rfl X₀
    exact ⟨t, o, a1, b1, b2, b3⟩
theorem lw_pre_spec {args : Array Value} {s : State} (h : (Jvm.Cond.and given_1 narrow_1).before args s = true) (hr : rest_1_c.before args s = true) : ∃ (b : Addr) (xs : List Int32), lw_P b xs args s := by
  have hs := flat_of_before _ h
  have hq := flat_of_before _ hr
  have hc : (Cond.count 1).before args s = true := hs _ (by decide +kernel)
  have harr : (Cond.arrayOf (.arg 0) .int).before args s = true := hs _ (by decide +kernel)
  have hle : (Cond.le (.length (.arg 0)) (.int 192)).before args s = true := hs _ (by decide +kernel)
  have hlen : (Cond.isInt (.length (.arg 0))).before args s = true := hq _ (by decide +kernel)
  have hall : (Cond.all (.arg 0) (.isInt (.elem (.arg 0) (.index 0)))).before args s = true := hq _ (by decide +kernel)
  obtain ⟨b, xs, hb, hx⟩ := State.ints_of_pre rfl harr hlen hall
  have hsm : xs.length < 2 ^ 31 := hx.choose_spec.2.2.2
  have hev : (Term.length (.arg 0)).eval args s none [] s = some (.int xs.length.toInt32) := hx.length_eval hb
  have hv := Cond.le_ints hev (show (Term.int 192).eval args s none [] s = some (.int 192) from rfl)
  have hd : xs.length.toInt32 ≤ 192 := by
    simpa [Cond.before, Cond.holds, hv] using hle
  have hN : xs.length ≤ 192 := (Int32.ofNat_le_ofNat hsm (by decide)).mp (show Int32.ofNat xs.length ≤ Int32.ofNat 192 from hd)
  exact ⟨b, xs, Cond.one_arg hc (show args[0]? = some (.ref b) from hb), hx, hN, h⟩
theorem lw_comes (l : Launch) : Comes l x (Jvm.Cond.code x code maxLocals ret :: tables_1) room_1 (fun tb e args s => Calls_1 tb e args s ∧ rest_1 tb e args s ∧ Pre_1 tb e args s)
    (fun _ _ args s o t => lw_Q args s o t) := by
  intro p e ha hc hk s m args below hf hfit hheap happ hpre
  obtain ⟨b, xs, hP⟩ := lw_pre_spec hpre.2.2 hpre.2.1
  obtain ⟨k, o, h1, h2, h3, hQ⟩ := lw_walk l b xs p e ha hc hk s m args below hf ((Spec.applies_iff_loose hf).mp happ).1 hP trivial
  exact ⟨k, o, h1, h2, h3, hQ⟩
theorem lw_frame {s t : State} {o : Outcome} {args : Array Value} (h : Framed s o t [] 600000 7290000) :
    Framed s o t (fieldLocs frame_1_writes args s ++ arrayLocs frame_1_arrays args s ++ staticLocs frame_1_statics s) 600000 7290000 := h
theorem lw_limb (L : Cond) (hL : ∀ (args : Array Value) (s t : State), L.after args s (.returned (some (.int 1))) t = true) :
    ArmFor flags0 classFile x code maxLocals ret World_1 tables_1 room_1 Calls_1 rest_1 Pre_1
      (fun tb e a s o t => postC L tb e a s o t ∧ Framed s o t (fieldLocs frame_1_writes a s ++ arrayLocs frame_1_arrays a s ++ staticLocs frame_1_statics s) 600000 7290000) := by
  intro l _ _ _ p e ha hc hk s m args below hf hfit hheap happ hpre
  obtain ⟨k, o, h1, h2, h3, rfl, hF⟩ := lw_comes l p e ha hc hk s m args below hf hfit hheap happ hpre
  exact ⟨k, _, h1, h2, h3, hL args s _, lw_frame hF⟩
theorem i_vc : Claimed_1_1 ∧ Claimed_1_2 := ⟨lw_limb limb_1_1 (fun args s t => by simp [limb_1_1, Cond.after, Cond.holds, Cond.value]), lw_limb limb_1_2 (fun args s t => Cond.after_iff.mpr (by
  first | (rw [show limb_1_2 = Cond.eq .result (.int 1) from rfl, Cond.eq_ints (x := 1) (y := 1) rfl rfl]; simp; done) | (simp [limb_1_2, Cond.value, Term.eval]; done)))⟩
end
