section
-- ===== PART A: goes FIRST, ahead of the names: the tables' words, and 'selects' of the private methods out of them =====
/-- a private method of a class that the tables say can be made, by its rows of tables_1 -/
def lw_okq (q : MethodName × Nat) : Prop := (q.1.cls ≠ "java/lang/invoke/MethodHandle" ∧ q.1.cls ≠ "java/lang/invoke/VarHandle") ∧ Cond.instantiable q.1.cls q.2 ∈ tables_1 ∧ Cond.privateMethod q.1 ∈ tables_1 ∧ Cond.instanceMethod q.1 ∈ tables_1
set_option maxRecDepth 100000
theorem lw_t1 {w : Cond} (h : w ∈ tables_1_1) : w ∈ tables_1 := List.mem_append_left _ h
theorem lw_t2 {w : Cond} (h : w ∈ tables_1_2) : w ∈ tables_1 := List.mem_append_right _ h
theorem lw_p0 : lw_okq (⟨"TapeSampler", "make", "(III)I"⟩, 16) := ⟨⟨by decide +kernel, by decide +kernel⟩, lw_t1 (List.mem_of_getElem? (i := 4) rfl), lw_t1 (List.mem_of_getElem? (i := 70) rfl), lw_t1 (List.mem_of_getElem? (i := 71) rfl)⟩
theorem lw_p1 : lw_okq (⟨"TapeSampler", "isNode", "(I)Z"⟩, 16) := ⟨⟨by decide +kernel, by decide +kernel⟩, lw_t1 (List.mem_of_getElem? (i := 4) rfl), lw_t1 (List.mem_of_getElem? (i := 82) rfl), lw_t1 (List.mem_of_getElem? (i := 83) rfl)⟩
theorem lw_p2 : lw_okq (⟨"TapeSampler", "computed", "(II)I"⟩, 16) := ⟨⟨by decide +kernel, by decide +kernel⟩, lw_t1 (List.mem_of_getElem? (i := 4) rfl), lw_t1 (List.mem_of_getElem? (i := 133) rfl), lw_t1 (List.mem_of_getElem? (i := 134) rfl)⟩
theorem lw_p3 : lw_okq (⟨"TapeSampler", "evaluate", "(I)I"⟩, 16) := ⟨⟨by decide +kernel, by decide +kernel⟩, lw_t1 (List.mem_of_getElem? (i := 4) rfl), lw_t1 (List.mem_of_getElem? (i := 141) rfl), lw_t1 (List.mem_of_getElem? (i := 142) rfl)⟩
theorem lw_p4 : lw_okq (⟨"TapeSampler", "mark", "()V"⟩, 16) := ⟨⟨by decide +kernel, by decide +kernel⟩, lw_t1 (List.mem_of_getElem? (i := 4) rfl), lw_t1 (List.mem_of_getElem? (i := 145) rfl), lw_t1 (List.mem_of_getElem? (i := 146) rfl)⟩
theorem lw_p5 : lw_okq (⟨"TapeSampler", "sweep", "(I)V"⟩, 16) := ⟨⟨by decide +kernel, by decide +kernel⟩, lw_t1 (List.mem_of_getElem? (i := 4) rfl), lw_t1 (List.mem_of_getElem? (i := 156) rfl), lw_t1 (List.mem_of_getElem? (i := 157) rfl)⟩
theorem lw_p6 : lw_okq (⟨"TapeSampler", "handOn", "(I)V"⟩, 16) := ⟨⟨by decide +kernel, by decide +kernel⟩, lw_t1 (List.mem_of_getElem? (i := 4) rfl), lw_t1 (List.mem_of_getElem? (i := 160) rfl), lw_t1 (List.mem_of_getElem? (i := 161) rfl)⟩
theorem lw_p7 : lw_okq (⟨"TapeSampler", "changed", "(II)I"⟩, 16) := ⟨⟨by decide +kernel, by decide +kernel⟩, lw_t1 (List.mem_of_getElem? (i := 4) rfl), lw_t1 (List.mem_of_getElem? (i := 168) rfl), lw_t1 (List.mem_of_getElem? (i := 169) rfl)⟩
theorem lw_p8 : lw_okq (⟨"TapeSampler", "kick", "(I)V"⟩, 16) := ⟨⟨by decide +kernel, by decide +kernel⟩, lw_t1 (List.mem_of_getElem? (i := 4) rfl), lw_t1 (List.mem_of_getElem? (i := 180) rfl), lw_t1 (List.mem_of_getElem? (i := 181) rfl)⟩
theorem lw_p9 : lw_okq (⟨"TapeSamplerModel", "badParameter", "(I)Z"⟩, 14) := ⟨⟨by decide +kernel, by decide +kernel⟩, lw_t1 (List.mem_of_getElem? (i := 196) rfl), lw_t2 (List.mem_of_getElem? (i := 9) rfl), lw_t2 (List.mem_of_getElem? (i := 10) rfl)⟩
theorem lw_p10 : lw_okq (⟨"TapeSamplerModel", "make", "(III)I"⟩, 14) := ⟨⟨by decide +kernel, by decide +kernel⟩, lw_t1 (List.mem_of_getElem? (i := 196) rfl), lw_t2 (List.mem_of_getElem? (i := 13) rfl), lw_t2 (List.mem_of_getElem? (i := 14) rfl)⟩
theorem lw_p11 : lw_okq (⟨"TapeSamplerModel", "badNode", "(I)Z"⟩, 14) := ⟨⟨by decide +kernel, by decide +kernel⟩, lw_t1 (List.mem_of_getElem? (i := 196) rfl), lw_t2 (List.mem_of_getElem? (i := 25) rfl), lw_t2 (List.mem_of_getElem? (i := 26) rfl)⟩
theorem lw_p12 : lw_okq (⟨"TapeSamplerModel", "badChain", "(I)Z"⟩, 14) := ⟨⟨by decide +kernel, by decide +kernel⟩, lw_t1 (List.mem_of_getElem? (i := 196) rfl), lw_t2 (List.mem_of_getElem? (i := 53) rfl), lw_t2 (List.mem_of_getElem? (i := 54) rfl)⟩
theorem lw_p13 : lw_okq (⟨"TapeSamplerModel", "work", "(II)V"⟩, 14) := ⟨⟨by decide +kernel, by decide +kernel⟩, lw_t1 (List.mem_of_getElem? (i := 196) rfl), lw_t2 (List.mem_of_getElem? (i := 77) rfl), lw_t2 (List.mem_of_getElem? (i := 78) rfl)⟩
theorem lw_p14 : lw_okq (⟨"TapeSamplerModel", "total", "()I"⟩, 14) := ⟨⟨by decide +kernel, by decide +kernel⟩, lw_t1 (List.mem_of_getElem? (i := 196) rfl), lw_t2 (List.mem_of_getElem? (i := 85) rfl), lw_t2 (List.mem_of_getElem? (i := 86) rfl)⟩
theorem lw_p15 : lw_okq (⟨"TapeSamplerModel", "steepness", "()I"⟩, 14) := ⟨⟨by decide +kernel, by decide +kernel⟩, lw_t1 (List.mem_of_getElem? (i := 196) rfl), lw_t2 (List.mem_of_getElem? (i := 93) rfl), lw_t2 (List.mem_of_getElem? (i := 94) rfl)⟩
def lw_privs_1 : List (MethodName × Nat) := [(⟨"TapeSampler", "make", "(III)I"⟩, 16), (⟨"TapeSampler", "isNode", "(I)Z"⟩, 16), (⟨"TapeSampler", "computed", "(II)I"⟩, 16), (⟨"TapeSampler", "evaluate", "(I)I"⟩, 16), (⟨"TapeSampler", "mark", "()V"⟩, 16), (⟨"TapeSampler", "sweep", "(I)V"⟩, 16), (⟨"TapeSampler", "handOn", "(I)V"⟩, 16), (⟨"TapeSampler", "changed", "(II)I"⟩, 16), (⟨"TapeSampler", "kick", "(I)V"⟩, 16), (⟨"TapeSamplerModel", "badParameter", "(I)Z"⟩, 14), (⟨"TapeSamplerModel", "make", "(III)I"⟩, 14), (⟨"TapeSamplerModel", "badNode", "(I)Z"⟩, 14), (⟨"TapeSamplerModel", "badChain", "(I)Z"⟩, 14), (⟨"TapeSamplerModel", "work", "(II)V"⟩, 14), (⟨"TapeSamplerModel", "total", "()I"⟩, 14), (⟨"TapeSamplerModel", "steepness", "()I"⟩, 14)]
theorem lw_r1 : ∀ q ∈ lw_privs_1, lw_okq q := List.forall_mem_cons.mpr ⟨lw_p0, List.forall_mem_cons.mpr ⟨lw_p1, List.forall_mem_cons.mpr ⟨lw_p2, List.forall_mem_cons.mpr ⟨lw_p3, List.forall_mem_cons.mpr ⟨lw_p4, List.forall_mem_cons.mpr ⟨lw_p5, List.forall_mem_cons.mpr ⟨lw_p6, List.forall_mem_cons.mpr ⟨lw_p7, List.forall_mem_cons.mpr ⟨lw_p8, List.forall_mem_cons.mpr ⟨lw_p9, List.forall_mem_cons.mpr ⟨lw_p10, List.forall_mem_cons.mpr ⟨lw_p11, List.forall_mem_cons.mpr ⟨lw_p12, List.forall_mem_cons.mpr ⟨lw_p13, List.forall_mem_cons.mpr ⟨lw_p14, List.forall_mem_cons.mpr ⟨lw_p15, fun _ h => absurd h List.not_mem_nil⟩⟩⟩⟩⟩⟩⟩⟩⟩⟩⟩⟩⟩⟩⟩⟩
theorem lw_p16 : lw_okq (⟨"TapeSamplerModel", "kick", "(I)V"⟩, 14) := ⟨⟨by decide +kernel, by decide +kernel⟩, lw_t1 (List.mem_of_getElem? (i := 196) rfl), lw_t2 (List.mem_of_getElem? (i := 109) rfl), lw_t2 (List.mem_of_getElem? (i := 110) rfl)⟩
def lw_privs_2 : List (MethodName × Nat) := [(⟨"TapeSamplerModel", "kick", "(I)V"⟩, 14)]
theorem lw_r2 : ∀ q ∈ lw_privs_2, lw_okq q := List.forall_mem_cons.mpr ⟨lw_p16, fun _ h => absurd h List.not_mem_nil⟩
def lw_privs : List (MethodName × Nat) := lw_privs_1 ++ (lw_privs_2)
def lw_tbl : List Cond := k2_sels lw_privs ++ tables_1
theorem lw_privs_ok : ∀ q ∈ lw_privs, lw_okq q := by
  show ∀ q ∈ lw_privs_1 ++ (lw_privs_2), lw_okq q
  exact List.forall_mem_append.mpr ⟨lw_r1, lw_r2⟩
-- ===== ONE list of words for every method: the tables' words that hold all through a run =====
def lw_all : List Cond := lw_tbl.filter goodWord
/-- a word of the tables by its place: claim/WORDS.tsv -/
theorem lw_w {w : Cond} (i : Nat) (h : lw_tbl[i]? = some w) (g : goodWord w = true) : w ∈ lw_all := List.mem_filter.mpr ⟨List.mem_of_getElem? h, g⟩
theorem lw_all_tbl {w : Cond} (h : w ∈ lw_all) : w ∈ lw_tbl := (List.mem_filter.mp h).1
theorem lw_self : GoodIn lw_all lw_all := fun w h => ⟨h, good_of_word (List.mem_filter.mp h).2⟩
/-- a class's field words, by their places -/
theorem lw_in (ws : List Cond) (ps : List Nat) (hp : ws = ps.filterMap (fun i => lw_tbl[i]?)) (hg : ws.all goodWord = true) : ∀ w ∈ ws, w ∈ lw_all := by
  intro w h
  have h1 := List.all_eq_true.mp hg w h
  rw [hp] at h
  obtain ⟨i, -, hi⟩ := List.mem_filterMap.mp h
  exact lw_w i hi h1
/-- the words of a contract for the method y with code b, L locals, answer r -/
abbrev ws_ (y : MethodName) (b : ByteArray) (L : Nat) (r : Option FieldType) : List Cond := Cond.code y b L r :: lw_all
theorem lw_meth {y : MethodName} {b : ByteArray} {L : Nat} {r : Option FieldType} (h : Cond.code y b L r ∈ lw_all) : GoodIn lw_all (ws_ y b L r) := by
  intro w hw
  rcases List.mem_cons.mp hw with e | e
  · rw [e]
    exact lw_self _ h
  · exact lw_self _ e
theorem lw_app {a c : List Cond} (ha : ∀ w ∈ a, w ∈ lw_all) (hc : GoodIn lw_all c) : GoodIn lw_all (a ++ c) := by
  intro w hw
  rcases List.mem_append.mp hw with e | e
  · exact lw_self w (ha w e)
  · exact hc w e
/-- what a call through an object asks: cwV n hts (lw_V ..) -/
theorem lw_V {own : String} {idx : Nat} {C : String} {y : MethodName} {b : ByteArray} {L : Nat} {r : Option FieldType} (h1 : Cond.methodLink own idx y ∈ lw_all) (h2 : Cond.instanceMethod y ∈ lw_all) (h3 : Cond.selects C y y ∈ lw_all) (h4 : Cond.initialized C ∈ lw_all) (h5 : Cond.code y b L r ∈ lw_all) : GoodIn lw_all (wsV own idx C y (ws_ y b L r)) := by
  refine lw_app ?_ (lw_meth h5)
  intro w hw
  simp only [List.mem_cons, List.not_mem_nil, or_false] at hw
  rcases hw with e | e | e | e
  · rw [e]; exact h1
  · rw [e]; exact h2
  · rw [e]; exact h3
  · rw [e]; exact h4
/-- what a static call asks: va_cwS n hts (lw_S ..) -/
theorem lw_S {own : String} {idx : Nat} {y : MethodName} {b : ByteArray} {L : Nat} {r : Option FieldType} (h1 : Cond.methodLink own idx y ∈ lw_all) (h2 : Cond.static y ∈ lw_all) (h3 : Cond.initialized y.cls ∈ lw_all) (h4 : Cond.code y b L r ∈ lw_all) : GoodIn lw_all (va_wsS own idx y (ws_ y b L r)) := by
  refine lw_app ?_ (lw_meth h4)
  intro w hw
  simp only [List.mem_cons, List.not_mem_nil, or_false] at hw
  rcases hw with e | e | e
  · rw [e]; exact h1
  · rw [e]; exact h2
  · rw [e]; exact h3
/-- the words of a contract for a method WITH HANDLERS (hh: its table) -/
abbrev wsW_ (y : MethodName) (b : ByteArray) (L : Nat) (r : Option FieldType) (hh : List (Nat × Nat × Nat × Nat)) : List Cond := Cond.codeWith y b L r hh :: lw_all
theorem lw_methW {y : MethodName} {b : ByteArray} {L : Nat} {r : Option FieldType} {hh : List (Nat × Nat × Nat × Nat)} (h : Cond.codeWith y b L r hh ∈ lw_all) : GoodIn lw_all (wsW_ y b L r hh) := by
  intro w hw
  rcases List.mem_cons.mp hw with e | e
  · rw [e]
    exact lw_self _ h
  · exact lw_self _ e
/-- any list of words by their places (lw_in), good -/
theorem lw_good {ws : List Cond} (h : ∀ w ∈ ws, w ∈ lw_all) : GoodIn lw_all ws := fun w hw => lw_self w (h w hw)
/-- what a call of a method with handlers asks: vx_cwVW n hts (lw_VW ..), vx_cwSW n hts (lw_SW ..) -/
theorem lw_VW {own : String} {idx : Nat} {C : String} {y : MethodName} {b : ByteArray} {L : Nat} {r : Option FieldType} {hh : List (Nat × Nat × Nat × Nat)} (h1 : Cond.methodLink own idx y ∈ lw_all) (h2 : Cond.instanceMethod y ∈ lw_all) (h3 : Cond.selects C y y ∈ lw_all) (h4 : Cond.initialized C ∈ lw_all) (h5 : Cond.codeWith y b L r hh ∈ lw_all) : GoodIn lw_all (wsV own idx C y (wsW_ y b L r hh)) := by
  refine lw_app ?_ (lw_methW h5)
  intro w hw
  simp only [List.mem_cons, List.not_mem_nil, or_false] at hw
  rcases hw with e | e | e | e
  · rw [e]; exact h1
  · rw [e]; exact h2
  · rw [e]; exact h3
  · rw [e]; exact h4
theorem lw_SW {own : String} {idx : Nat} {y : MethodName} {b : ByteArray} {L : Nat} {r : Option FieldType} {hh : List (Nat × Nat × Nat × Nat)} (h1 : Cond.methodLink own idx y ∈ lw_all) (h2 : Cond.static y ∈ lw_all) (h3 : Cond.initialized y.cls ∈ lw_all) (h4 : Cond.codeWith y b L r hh ∈ lw_all) : GoodIn lw_all (va_wsS own idx y (wsW_ y b L r hh)) := by
  refine lw_app ?_ (lw_methW h4)
  intro w hw
  simp only [List.mem_cons, List.not_mem_nil, or_false] at hw
  rcases hw with e | e | e
  · rw [e]; exact h1
  · rw [e]; exact h2
  · rw [e]; exact h3
/-- a word by its place in its run of the tables -/
theorem lw_at {r : List Cond} (hr : ∀ w ∈ r, w ∈ lw_tbl) {w : Cond} (i : Nat) (h : r[i]? = some w) : w ∈ lw_tbl := hr w (List.mem_of_getElem? h)
theorem lw_g {w : Cond} (h : w ∈ lw_tbl) (g : goodWord w = true) : w ∈ lw_all := List.mem_filter.mpr ⟨h, g⟩
theorem lw_ms : ∀ w ∈ k2_sels lw_privs, w ∈ lw_tbl := fun w h => show w ∈ k2_sels lw_privs ++ tables_1 from List.mem_append_left _ h
theorem lw_m1 : ∀ w ∈ tables_1_1, w ∈ lw_tbl := fun w h => show w ∈ k2_sels lw_privs ++ tables_1 from List.mem_append_right (k2_sels lw_privs) (show w ∈ tables_1 from List.mem_append_left _ h)
theorem lw_m2 : ∀ w ∈ tables_1_2, w ∈ lw_tbl := fun w h => show w ∈ k2_sels lw_privs ++ tables_1 from List.mem_append_right (k2_sels lw_privs) (show w ∈ tables_1 from List.mem_append_right _ h)
theorem qs0 : (Cond.selects "TapeSampler" ⟨"TapeSampler", "make", "(III)I"⟩ ⟨"TapeSampler", "make", "(III)I"⟩) ∈ lw_all := lw_g (lw_at lw_ms 0 rfl) rfl
theorem qs1 : (Cond.selects "TapeSampler" ⟨"TapeSampler", "isNode", "(I)Z"⟩ ⟨"TapeSampler", "isNode", "(I)Z"⟩) ∈ lw_all := lw_g (lw_at lw_ms 1 rfl) rfl
theorem qs2 : (Cond.selects "TapeSampler" ⟨"TapeSampler", "computed", "(II)I"⟩ ⟨"TapeSampler", "computed", "(II)I"⟩) ∈ lw_all := lw_g (lw_at lw_ms 2 rfl) rfl
theorem qs3 : (Cond.selects "TapeSampler" ⟨"TapeSampler", "evaluate", "(I)I"⟩ ⟨"TapeSampler", "evaluate", "(I)I"⟩) ∈ lw_all := lw_g (lw_at lw_ms 3 rfl) rfl
theorem qs4 : (Cond.selects "TapeSampler" ⟨"TapeSampler", "mark", "()V"⟩ ⟨"TapeSampler", "mark", "()V"⟩) ∈ lw_all := lw_g (lw_at lw_ms 4 rfl) rfl
theorem qs5 : (Cond.selects "TapeSampler" ⟨"TapeSampler", "sweep", "(I)V"⟩ ⟨"TapeSampler", "sweep", "(I)V"⟩) ∈ lw_all := lw_g (lw_at lw_ms 5 rfl) rfl
theorem qs6 : (Cond.selects "TapeSampler" ⟨"TapeSampler", "handOn", "(I)V"⟩ ⟨"TapeSampler", "handOn", "(I)V"⟩) ∈ lw_all := lw_g (lw_at lw_ms 6 rfl) rfl
theorem qs7 : (Cond.selects "TapeSampler" ⟨"TapeSampler", "changed", "(II)I"⟩ ⟨"TapeSampler", "changed", "(II)I"⟩) ∈ lw_all := lw_g (lw_at lw_ms 7 rfl) rfl
theorem qs8 : (Cond.selects "TapeSampler" ⟨"TapeSampler", "kick", "(I)V"⟩ ⟨"TapeSampler", "kick", "(I)V"⟩) ∈ lw_all := lw_g (lw_at lw_ms 8 rfl) rfl
theorem qs9 : (Cond.selects "TapeSamplerModel" ⟨"TapeSamplerModel", "badParameter", "(I)Z"⟩ ⟨"TapeSamplerModel", "badParameter", "(I)Z"⟩) ∈ lw_all := lw_g (lw_at lw_ms 9 rfl) rfl
theorem qs10 : (Cond.selects "TapeSamplerModel" ⟨"TapeSamplerModel", "make", "(III)I"⟩ ⟨"TapeSamplerModel", "make", "(III)I"⟩) ∈ lw_all := lw_g (lw_at lw_ms 10 rfl) rfl
theorem qs11 : (Cond.selects "TapeSamplerModel" ⟨"TapeSamplerModel", "badNode", "(I)Z"⟩ ⟨"TapeSamplerModel", "badNode", "(I)Z"⟩) ∈ lw_all := lw_g (lw_at lw_ms 11 rfl) rfl
theorem qs12 : (Cond.selects "TapeSamplerModel" ⟨"TapeSamplerModel", "badChain", "(I)Z"⟩ ⟨"TapeSamplerModel", "badChain", "(I)Z"⟩) ∈ lw_all := lw_g (lw_at lw_ms 12 rfl) rfl
theorem qs13 : (Cond.selects "TapeSamplerModel" ⟨"TapeSamplerModel", "work", "(II)V"⟩ ⟨"TapeSamplerModel", "work", "(II)V"⟩) ∈ lw_all := lw_g (lw_at lw_ms 13 rfl) rfl
theorem qs14 : (Cond.selects "TapeSamplerModel" ⟨"TapeSamplerModel", "total", "()I"⟩ ⟨"TapeSamplerModel", "total", "()I"⟩) ∈ lw_all := lw_g (lw_at lw_ms 14 rfl) rfl
theorem qs15 : (Cond.selects "TapeSamplerModel" ⟨"TapeSamplerModel", "steepness", "()I"⟩ ⟨"TapeSamplerModel", "steepness", "()I"⟩) ∈ lw_all := lw_g (lw_at lw_ms 15 rfl) rfl
theorem qs16 : (Cond.selects "TapeSamplerModel" ⟨"TapeSamplerModel", "kick", "(I)V"⟩ ⟨"TapeSamplerModel", "kick", "(I)V"⟩) ∈ lw_all := lw_g (lw_at lw_ms 16 rfl) rfl
end
section
/-! TapeSampler -/
set_option maxRecDepth 100000
def RX0 : String := "TapeSampler"
def TX0 : u_T := fun k => match k with
  | 0 => ("TapeSampler", "kinds", "[I", true)
  | 1 => ("TapeSampler", "lefts", "[I", true)
  | 2 => ("TapeSampler", "rights", "[I", true)
  | 3 => ("TapeSampler", "termNode", "[I", true)
  | 4 => ("TapeSampler", "termWeight", "[I", true)
  | 5 => ("TapeSampler", "positions", "[I", true)
  | 6 => ("TapeSampler", "momenta", "[I", true)
  | 7 => ("TapeSampler", "values", "[I", true)
  | 8 => ("TapeSampler", "shares", "[I", true)
  | 9 => ("TapeSampler", "changes", "[I", true)
  | 10 => ("TapeSampler", "needed", "[Z", true)
  | 11 => ("TapeSampler", "slopes", "[I", true)
  | 12 => ("TapeSampler", "count", "I", false)
  | 13 => ("TapeSampler", "termCount", "I", false)
  | 14 => ("TapeSampler", "right", "I", false)
  | _ => ("TapeSampler", "marked", "Z", false)
def tyX0 : Nat → FieldType := fun k => match k with
  | 0 => .array .int
  | 1 => .array .int
  | 2 => .array .int
  | 3 => .array .int
  | 4 => .array .int
  | 5 => .array .int
  | 6 => .array .int
  | 7 => .array .int
  | 8 => .array .int
  | 9 => .array .int
  | 10 => .array .boolean
  | 11 => .array .int
  | 12 => .int
  | 13 => .int
  | 14 => .int
  | _ => .boolean
abbrev wsX00 : List Cond := u_ws RX0 TX0 16
set_option maxRecDepth 100000 in
theorem nmX0 : ∀ a, a < 16 → ∀ b, b < 16 → a ≠ b → (TX0 a).2.1 ≠ (TX0 b).2.1 := by decide +kernel
set_option maxRecDepth 100000 in
theorem tyX0_ok : ∀ k, k < 16 → parseFieldDescriptor (TX0 k).2.2.1 = some (tyX0 k) := by decide +kernel
abbrev cX0_init : ByteArray := prog_1_method_1_code
def yX0_init : MethodName := ⟨RX0, "<init>", "()V"⟩
theorem dX0_init_0 : decode cX0_init 0 = .ok (.aload_n 0, 1) := by decide +kernel
theorem dX0_init_1 : decode cX0_init 1 = .ok (.invokespecial 1, 3) := by decide +kernel
theorem dX0_init_4 : decode cX0_init 4 = .ok (.aload_n 0, 1) := by decide +kernel
theorem dX0_init_5 : decode cX0_init 5 = .ok (.bipush 24, 2) := by decide +kernel
theorem dX0_init_7 : decode cX0_init 7 = .ok (.newarray .int, 2) := by decide +kernel
theorem dX0_init_9 : decode cX0_init 9 = .ok (.putfield 7, 3) := by decide +kernel
theorem dX0_init_12 : decode cX0_init 12 = .ok (.aload_n 0, 1) := by decide +kernel
theorem dX0_init_13 : decode cX0_init 13 = .ok (.bipush 24, 2) := by decide +kernel
theorem dX0_init_15 : decode cX0_init 15 = .ok (.newarray .int, 2) := by decide +kernel
theorem dX0_init_17 : decode cX0_init 17 = .ok (.putfield 13, 3) := by decide +kernel
theorem dX0_init_20 : decode cX0_init 20 = .ok (.aload_n 0, 1) := by decide +kernel
theorem dX0_init_21 : decode cX0_init 21 = .ok (.bipush 24, 2) := by decide +kernel
theorem dX0_init_23 : decode cX0_init 23 = .ok (.newarray .int, 2) := by decide +kernel
theorem dX0_init_25 : decode cX0_init 25 = .ok (.putfield 16, 3) := by decide +kernel
theorem dX0_init_28 : decode cX0_init 28 = .ok (.aload_n 0, 1) := by decide +kernel
theorem dX0_init_29 : decode cX0_init 29 = .ok (.bipush 8, 2) := by decide +kernel
theorem dX0_init_31 : decode cX0_init 31 = .ok (.newarray .int, 2) := by decide +kernel
theorem dX0_init_33 : decode cX0_init 33 = .ok (.putfield 19, 3) := by decide +kernel
theorem dX0_init_36 : decode cX0_init 36 = .ok (.aload_n 0, 1) := by decide +kernel
theorem dX0_init_37 : decode cX0_init 37 = .ok (.bipush 8, 2) := by decide +kernel
theorem dX0_init_39 : decode cX0_init 39 = .ok (.newarray .int, 2) := by decide +kernel
theorem dX0_init_41 : decode cX0_init 41 = .ok (.putfield 22, 3) := by decide +kernel
theorem dX0_init_44 : decode cX0_init 44 = .ok (.aload_n 0, 1) := by decide +kernel
theorem dX0_init_45 : decode cX0_init 45 = .ok (.bipush 12, 2) := by decide +kernel
theorem dX0_init_47 : decode cX0_init 47 = .ok (.newarray .int, 2) := by decide +kernel
theorem dX0_init_49 : decode cX0_init 49 = .ok (.putfield 25, 3) := by decide +kernel
theorem dX0_init_52 : decode cX0_init 52 = .ok (.aload_n 0, 1) := by decide +kernel
theorem dX0_init_53 : decode cX0_init 53 = .ok (.bipush 12, 2) := by decide +kernel
theorem dX0_init_55 : decode cX0_init 55 = .ok (.newarray .int, 2) := by decide +kernel
theorem dX0_init_57 : decode cX0_init 57 = .ok (.putfield 28, 3) := by decide +kernel
theorem dX0_init_60 : decode cX0_init 60 = .ok (.aload_n 0, 1) := by decide +kernel
theorem dX0_init_61 : decode cX0_init 61 = .ok (.bipush 24, 2) := by decide +kernel
theorem dX0_init_63 : decode cX0_init 63 = .ok (.newarray .int, 2) := by decide +kernel
theorem dX0_init_65 : decode cX0_init 65 = .ok (.putfield 31, 3) := by decide +kernel
theorem dX0_init_68 : decode cX0_init 68 = .ok (.aload_n 0, 1) := by decide +kernel
theorem dX0_init_69 : decode cX0_init 69 = .ok (.bipush 24, 2) := by decide +kernel
theorem dX0_init_71 : decode cX0_init 71 = .ok (.newarray .int, 2) := by decide +kernel
theorem dX0_init_73 : decode cX0_init 73 = .ok (.putfield 34, 3) := by decide +kernel
theorem dX0_init_76 : decode cX0_init 76 = .ok (.aload_n 0, 1) := by decide +kernel
theorem dX0_init_77 : decode cX0_init 77 = .ok (.bipush 24, 2) := by decide +kernel
theorem dX0_init_79 : decode cX0_init 79 = .ok (.newarray .int, 2) := by decide +kernel
theorem dX0_init_81 : decode cX0_init 81 = .ok (.putfield 37, 3) := by decide +kernel
theorem dX0_init_84 : decode cX0_init 84 = .ok (.aload_n 0, 1) := by decide +kernel
theorem dX0_init_85 : decode cX0_init 85 = .ok (.bipush 24, 2) := by decide +kernel
theorem dX0_init_87 : decode cX0_init 87 = .ok (.newarray .boolean, 2) := by decide +kernel
theorem dX0_init_89 : decode cX0_init 89 = .ok (.putfield 40, 3) := by decide +kernel
theorem dX0_init_92 : decode cX0_init 92 = .ok (.aload_n 0, 1) := by decide +kernel
theorem dX0_init_93 : decode cX0_init 93 = .ok (.iconst 4, 1) := by decide +kernel
theorem dX0_init_94 : decode cX0_init 94 = .ok (.newarray .int, 2) := by decide +kernel
theorem dX0_init_96 : decode cX0_init 96 = .ok (.putfield 44, 3) := by decide +kernel
theorem dX0_init_99 : decode cX0_init 99 = .ok (.aload_n 0, 1) := by decide +kernel
theorem dX0_init_100 : decode cX0_init 100 = .ok (.iconst 0, 1) := by decide +kernel
theorem dX0_init_101 : decode cX0_init 101 = .ok (.putfield 47, 3) := by decide +kernel
theorem dX0_init_104 : decode cX0_init 104 = .ok (.return_, 1) := by decide +kernel
abbrev cX0_parameter : ByteArray := prog_1_method_2_code
def yX0_parameter : MethodName := ⟨RX0, "parameter", "(I)I"⟩
theorem dX0_parameter_0 : decode cX0_parameter 0 = .ok (.iload_n 1, 1) := by decide +kernel
theorem dX0_parameter_1 : decode cX0_parameter 1 = .ok (.invokestatic 51, 3) := by decide +kernel
theorem dX0_parameter_4 : decode cX0_parameter 4 = .ok (.ifCond .ne 5, 3) := by decide +kernel
theorem dX0_parameter_7 : decode cX0_parameter 7 = .ok (.iconst (-1), 1) := by decide +kernel
theorem dX0_parameter_8 : decode cX0_parameter 8 = .ok (.ireturn, 1) := by decide +kernel
theorem dX0_parameter_9 : decode cX0_parameter 9 = .ok (.aload_n 0, 1) := by decide +kernel
theorem dX0_parameter_10 : decode cX0_parameter 10 = .ok (.iconst 0, 1) := by decide +kernel
theorem dX0_parameter_11 : decode cX0_parameter 11 = .ok (.iload_n 1, 1) := by decide +kernel
theorem dX0_parameter_12 : decode cX0_parameter 12 = .ok (.iconst 0, 1) := by decide +kernel
theorem dX0_parameter_13 : decode cX0_parameter 13 = .ok (.invokevirtual 55, 3) := by decide +kernel
theorem dX0_parameter_16 : decode cX0_parameter 16 = .ok (.ireturn, 1) := by decide +kernel
abbrev cX0_isParameter : ByteArray := prog_1_method_25_code
def yX0_isParameter : MethodName := ⟨RX0, "isParameter", "(I)Z"⟩
theorem dX0_isParameter_0 : decode cX0_isParameter 0 = .ok (.iload_n 0, 1) := by decide +kernel
theorem dX0_isParameter_1 : decode cX0_isParameter 1 = .ok (.ifCond .lt 12, 3) := by decide +kernel
theorem dX0_isParameter_4 : decode cX0_isParameter 4 = .ok (.iload_n 0, 1) := by decide +kernel
theorem dX0_isParameter_5 : decode cX0_isParameter 5 = .ok (.iconst 4, 1) := by decide +kernel
theorem dX0_isParameter_6 : decode cX0_isParameter 6 = .ok (.if_icmp .ge 7, 3) := by decide +kernel
theorem dX0_isParameter_9 : decode cX0_isParameter 9 = .ok (.iconst 1, 1) := by decide +kernel
theorem dX0_isParameter_10 : decode cX0_isParameter 10 = .ok (.goto 4, 3) := by decide +kernel
theorem dX0_isParameter_13 : decode cX0_isParameter 13 = .ok (.iconst 0, 1) := by decide +kernel
theorem dX0_isParameter_14 : decode cX0_isParameter 14 = .ok (.ireturn, 1) := by decide +kernel
abbrev cX0_make : ByteArray := prog_1_method_27_code
def yX0_make : MethodName := ⟨RX0, "make", "(III)I"⟩
theorem dX0_make_0 : decode cX0_make 0 = .ok (.aload_n 0, 1) := by decide +kernel
theorem dX0_make_1 : decode cX0_make 1 = .ok (.getfield 59, 3) := by decide +kernel
theorem dX0_make_4 : decode cX0_make 4 = .ok (.bipush 24, 2) := by decide +kernel
theorem dX0_make_6 : decode cX0_make 6 = .ok (.if_icmp .ne 6, 3) := by decide +kernel
theorem dX0_make_9 : decode cX0_make 9 = .ok (.bipush (-2), 2) := by decide +kernel
theorem dX0_make_11 : decode cX0_make 11 = .ok (.ireturn, 1) := by decide +kernel
theorem dX0_make_12 : decode cX0_make 12 = .ok (.aload_n 0, 1) := by decide +kernel
theorem dX0_make_13 : decode cX0_make 13 = .ok (.getfield 7, 3) := by decide +kernel
theorem dX0_make_16 : decode cX0_make 16 = .ok (.aload_n 0, 1) := by decide +kernel
theorem dX0_make_17 : decode cX0_make 17 = .ok (.getfield 59, 3) := by decide +kernel
theorem dX0_make_20 : decode cX0_make 20 = .ok (.iload_n 1, 1) := by decide +kernel
theorem dX0_make_21 : decode cX0_make 21 = .ok (.iastore, 1) := by decide +kernel
theorem dX0_make_22 : decode cX0_make 22 = .ok (.aload_n 0, 1) := by decide +kernel
theorem dX0_make_23 : decode cX0_make 23 = .ok (.getfield 13, 3) := by decide +kernel
theorem dX0_make_26 : decode cX0_make 26 = .ok (.aload_n 0, 1) := by decide +kernel
theorem dX0_make_27 : decode cX0_make 27 = .ok (.getfield 59, 3) := by decide +kernel
theorem dX0_make_30 : decode cX0_make 30 = .ok (.iload_n 2, 1) := by decide +kernel
theorem dX0_make_31 : decode cX0_make 31 = .ok (.iastore, 1) := by decide +kernel
theorem dX0_make_32 : decode cX0_make 32 = .ok (.aload_n 0, 1) := by decide +kernel
theorem dX0_make_33 : decode cX0_make 33 = .ok (.getfield 16, 3) := by decide +kernel
theorem dX0_make_36 : decode cX0_make 36 = .ok (.aload_n 0, 1) := by decide +kernel
theorem dX0_make_37 : decode cX0_make 37 = .ok (.getfield 59, 3) := by decide +kernel
theorem dX0_make_40 : decode cX0_make 40 = .ok (.iload_n 3, 1) := by decide +kernel
theorem dX0_make_41 : decode cX0_make 41 = .ok (.iastore, 1) := by decide +kernel
theorem dX0_make_42 : decode cX0_make 42 = .ok (.aload_n 0, 1) := by decide +kernel
theorem dX0_make_43 : decode cX0_make 43 = .ok (.dup, 1) := by decide +kernel
theorem dX0_make_44 : decode cX0_make 44 = .ok (.getfield 59, 3) := by decide +kernel
theorem dX0_make_47 : decode cX0_make 47 = .ok (.iconst 1, 1) := by decide +kernel
theorem dX0_make_48 : decode cX0_make 48 = .ok (.iadd, 1) := by decide +kernel
theorem dX0_make_49 : decode cX0_make 49 = .ok (.putfield 59, 3) := by decide +kernel
theorem dX0_make_52 : decode cX0_make 52 = .ok (.aload_n 0, 1) := by decide +kernel
theorem dX0_make_53 : decode cX0_make 53 = .ok (.iconst 0, 1) := by decide +kernel
theorem dX0_make_54 : decode cX0_make 54 = .ok (.putfield 47, 3) := by decide +kernel
theorem dX0_make_57 : decode cX0_make 57 = .ok (.aload_n 0, 1) := by decide +kernel
theorem dX0_make_58 : decode cX0_make 58 = .ok (.getfield 59, 3) := by decide +kernel
theorem dX0_make_61 : decode cX0_make 61 = .ok (.iconst 1, 1) := by decide +kernel
theorem dX0_make_62 : decode cX0_make 62 = .ok (.isub, 1) := by decide +kernel
theorem dX0_make_63 : decode cX0_make 63 = .ok (.ireturn, 1) := by decide +kernel
abbrev cX0_constant : ByteArray := prog_1_method_3_code
def yX0_constant : MethodName := ⟨RX0, "constant", "(I)I"⟩
theorem dX0_constant_0 : decode cX0_constant 0 = .ok (.aload_n 0, 1) := by decide +kernel
theorem dX0_constant_1 : decode cX0_constant 1 = .ok (.iconst 1, 1) := by decide +kernel
theorem dX0_constant_2 : decode cX0_constant 2 = .ok (.iload_n 1, 1) := by decide +kernel
theorem dX0_constant_3 : decode cX0_constant 3 = .ok (.iconst 0, 1) := by decide +kernel
theorem dX0_constant_4 : decode cX0_constant 4 = .ok (.invokevirtual 55, 3) := by decide +kernel
theorem dX0_constant_7 : decode cX0_constant 7 = .ok (.ireturn, 1) := by decide +kernel
abbrev cX0_combine : ByteArray := prog_1_method_4_code
def yX0_combine : MethodName := ⟨RX0, "combine", "(III)I"⟩
theorem dX0_combine_0 : decode cX0_combine 0 = .ok (.iload_n 1, 1) := by decide +kernel
theorem dX0_combine_1 : decode cX0_combine 1 = .ok (.ifCond .lt 8, 3) := by decide +kernel
theorem dX0_combine_4 : decode cX0_combine 4 = .ok (.iload_n 1, 1) := by decide +kernel
theorem dX0_combine_5 : decode cX0_combine 5 = .ok (.iconst 2, 1) := by decide +kernel
theorem dX0_combine_6 : decode cX0_combine 6 = .ok (.if_icmp .le 5, 3) := by decide +kernel
theorem dX0_combine_9 : decode cX0_combine 9 = .ok (.iconst (-1), 1) := by decide +kernel
theorem dX0_combine_10 : decode cX0_combine 10 = .ok (.ireturn, 1) := by decide +kernel
theorem dX0_combine_11 : decode cX0_combine 11 = .ok (.aload_n 0, 1) := by decide +kernel
theorem dX0_combine_12 : decode cX0_combine 12 = .ok (.getfield 59, 3) := by decide +kernel
theorem dX0_combine_15 : decode cX0_combine 15 = .ok (.bipush 24, 2) := by decide +kernel
theorem dX0_combine_17 : decode cX0_combine 17 = .ok (.if_icmp .ne 6, 3) := by decide +kernel
theorem dX0_combine_20 : decode cX0_combine 20 = .ok (.bipush (-2), 2) := by decide +kernel
theorem dX0_combine_22 : decode cX0_combine 22 = .ok (.ireturn, 1) := by decide +kernel
theorem dX0_combine_23 : decode cX0_combine 23 = .ok (.aload_n 0, 1) := by decide +kernel
theorem dX0_combine_24 : decode cX0_combine 24 = .ok (.iload_n 2, 1) := by decide +kernel
theorem dX0_combine_25 : decode cX0_combine 25 = .ok (.invokevirtual 63, 3) := by decide +kernel
theorem dX0_combine_28 : decode cX0_combine 28 = .ok (.ifCond .eq 11, 3) := by decide +kernel
theorem dX0_combine_31 : decode cX0_combine 31 = .ok (.aload_n 0, 1) := by decide +kernel
theorem dX0_combine_32 : decode cX0_combine 32 = .ok (.iload_n 3, 1) := by decide +kernel
theorem dX0_combine_33 : decode cX0_combine 33 = .ok (.invokevirtual 63, 3) := by decide +kernel
theorem dX0_combine_36 : decode cX0_combine 36 = .ok (.ifCond .ne 6, 3) := by decide +kernel
theorem dX0_combine_39 : decode cX0_combine 39 = .ok (.bipush (-3), 2) := by decide +kernel
theorem dX0_combine_41 : decode cX0_combine 41 = .ok (.ireturn, 1) := by decide +kernel
theorem dX0_combine_42 : decode cX0_combine 42 = .ok (.aload_n 0, 1) := by decide +kernel
theorem dX0_combine_43 : decode cX0_combine 43 = .ok (.iconst 2, 1) := by decide +kernel
theorem dX0_combine_44 : decode cX0_combine 44 = .ok (.iload_n 1, 1) := by decide +kernel
theorem dX0_combine_45 : decode cX0_combine 45 = .ok (.iadd, 1) := by decide +kernel
theorem dX0_combine_46 : decode cX0_combine 46 = .ok (.iload_n 2, 1) := by decide +kernel
theorem dX0_combine_47 : decode cX0_combine 47 = .ok (.iload_n 3, 1) := by decide +kernel
theorem dX0_combine_48 : decode cX0_combine 48 = .ok (.invokevirtual 55, 3) := by decide +kernel
theorem dX0_combine_51 : decode cX0_combine 51 = .ok (.ireturn, 1) := by decide +kernel
abbrev cX0_isNode : ByteArray := prog_1_method_26_code
def yX0_isNode : MethodName := ⟨RX0, "isNode", "(I)Z"⟩
theorem dX0_isNode_0 : decode cX0_isNode 0 = .ok (.iload_n 1, 1) := by decide +kernel
theorem dX0_isNode_1 : decode cX0_isNode 1 = .ok (.ifCond .lt 15, 3) := by decide +kernel
theorem dX0_isNode_4 : decode cX0_isNode 4 = .ok (.iload_n 1, 1) := by decide +kernel
theorem dX0_isNode_5 : decode cX0_isNode 5 = .ok (.aload_n 0, 1) := by decide +kernel
theorem dX0_isNode_6 : decode cX0_isNode 6 = .ok (.getfield 59, 3) := by decide +kernel
theorem dX0_isNode_9 : decode cX0_isNode 9 = .ok (.if_icmp .ge 7, 3) := by decide +kernel
theorem dX0_isNode_12 : decode cX0_isNode 12 = .ok (.iconst 1, 1) := by decide +kernel
theorem dX0_isNode_13 : decode cX0_isNode 13 = .ok (.goto 4, 3) := by decide +kernel
theorem dX0_isNode_16 : decode cX0_isNode 16 = .ok (.iconst 0, 1) := by decide +kernel
theorem dX0_isNode_17 : decode cX0_isNode 17 = .ok (.ireturn, 1) := by decide +kernel
abbrev cX0_square : ByteArray := prog_1_method_5_code
def yX0_square : MethodName := ⟨RX0, "square", "(I)I"⟩
theorem dX0_square_0 : decode cX0_square 0 = .ok (.aload_n 0, 1) := by decide +kernel
theorem dX0_square_1 : decode cX0_square 1 = .ok (.getfield 59, 3) := by decide +kernel
theorem dX0_square_4 : decode cX0_square 4 = .ok (.bipush 24, 2) := by decide +kernel
theorem dX0_square_6 : decode cX0_square 6 = .ok (.if_icmp .ne 6, 3) := by decide +kernel
theorem dX0_square_9 : decode cX0_square 9 = .ok (.bipush (-2), 2) := by decide +kernel
theorem dX0_square_11 : decode cX0_square 11 = .ok (.ireturn, 1) := by decide +kernel
theorem dX0_square_12 : decode cX0_square 12 = .ok (.aload_n 0, 1) := by decide +kernel
theorem dX0_square_13 : decode cX0_square 13 = .ok (.iload_n 1, 1) := by decide +kernel
theorem dX0_square_14 : decode cX0_square 14 = .ok (.invokevirtual 63, 3) := by decide +kernel
theorem dX0_square_17 : decode cX0_square 17 = .ok (.ifCond .ne 6, 3) := by decide +kernel
theorem dX0_square_20 : decode cX0_square 20 = .ok (.bipush (-3), 2) := by decide +kernel
theorem dX0_square_22 : decode cX0_square 22 = .ok (.ireturn, 1) := by decide +kernel
theorem dX0_square_23 : decode cX0_square 23 = .ok (.aload_n 0, 1) := by decide +kernel
theorem dX0_square_24 : decode cX0_square 24 = .ok (.iconst 5, 1) := by decide +kernel
theorem dX0_square_25 : decode cX0_square 25 = .ok (.iload_n 1, 1) := by decide +kernel
theorem dX0_square_26 : decode cX0_square 26 = .ok (.iload_n 1, 1) := by decide +kernel
theorem dX0_square_27 : decode cX0_square 27 = .ok (.invokevirtual 55, 3) := by decide +kernel
theorem dX0_square_30 : decode cX0_square 30 = .ok (.ireturn, 1) := by decide +kernel
abbrev cX0_term : ByteArray := prog_1_method_6_code
def yX0_term : MethodName := ⟨RX0, "term", "(II)I"⟩
theorem dX0_term_0 : decode cX0_term 0 = .ok (.aload_n 0, 1) := by decide +kernel
theorem dX0_term_1 : decode cX0_term 1 = .ok (.iload_n 1, 1) := by decide +kernel
theorem dX0_term_2 : decode cX0_term 2 = .ok (.invokevirtual 63, 3) := by decide +kernel
theorem dX0_term_5 : decode cX0_term 5 = .ok (.ifCond .ne 5, 3) := by decide +kernel
theorem dX0_term_8 : decode cX0_term 8 = .ok (.iconst (-1), 1) := by decide +kernel
theorem dX0_term_9 : decode cX0_term 9 = .ok (.ireturn, 1) := by decide +kernel
theorem dX0_term_10 : decode cX0_term 10 = .ok (.iload_n 2, 1) := by decide +kernel
theorem dX0_term_11 : decode cX0_term 11 = .ok (.bipush (-20), 2) := by decide +kernel
theorem dX0_term_13 : decode cX0_term 13 = .ok (.if_icmp .lt 9, 3) := by decide +kernel
theorem dX0_term_16 : decode cX0_term 16 = .ok (.iload_n 2, 1) := by decide +kernel
theorem dX0_term_17 : decode cX0_term 17 = .ok (.bipush 20, 2) := by decide +kernel
theorem dX0_term_19 : decode cX0_term 19 = .ok (.if_icmp .le 6, 3) := by decide +kernel
theorem dX0_term_22 : decode cX0_term 22 = .ok (.bipush (-2), 2) := by decide +kernel
theorem dX0_term_24 : decode cX0_term 24 = .ok (.ireturn, 1) := by decide +kernel
theorem dX0_term_25 : decode cX0_term 25 = .ok (.aload_n 0, 1) := by decide +kernel
theorem dX0_term_26 : decode cX0_term 26 = .ok (.getfield 66, 3) := by decide +kernel
theorem dX0_term_29 : decode cX0_term 29 = .ok (.bipush 8, 2) := by decide +kernel
theorem dX0_term_31 : decode cX0_term 31 = .ok (.if_icmp .ne 6, 3) := by decide +kernel
theorem dX0_term_34 : decode cX0_term 34 = .ok (.bipush (-3), 2) := by decide +kernel
theorem dX0_term_36 : decode cX0_term 36 = .ok (.ireturn, 1) := by decide +kernel
theorem dX0_term_37 : decode cX0_term 37 = .ok (.aload_n 0, 1) := by decide +kernel
theorem dX0_term_38 : decode cX0_term 38 = .ok (.getfield 19, 3) := by decide +kernel
theorem dX0_term_41 : decode cX0_term 41 = .ok (.aload_n 0, 1) := by decide +kernel
theorem dX0_term_42 : decode cX0_term 42 = .ok (.getfield 66, 3) := by decide +kernel
theorem dX0_term_45 : decode cX0_term 45 = .ok (.iload_n 1, 1) := by decide +kernel
theorem dX0_term_46 : decode cX0_term 46 = .ok (.iastore, 1) := by decide +kernel
theorem dX0_term_47 : decode cX0_term 47 = .ok (.aload_n 0, 1) := by decide +kernel
theorem dX0_term_48 : decode cX0_term 48 = .ok (.getfield 22, 3) := by decide +kernel
theorem dX0_term_51 : decode cX0_term 51 = .ok (.aload_n 0, 1) := by decide +kernel
theorem dX0_term_52 : decode cX0_term 52 = .ok (.getfield 66, 3) := by decide +kernel
theorem dX0_term_55 : decode cX0_term 55 = .ok (.iload_n 2, 1) := by decide +kernel
theorem dX0_term_56 : decode cX0_term 56 = .ok (.iastore, 1) := by decide +kernel
theorem dX0_term_57 : decode cX0_term 57 = .ok (.aload_n 0, 1) := by decide +kernel
theorem dX0_term_58 : decode cX0_term 58 = .ok (.dup, 1) := by decide +kernel
theorem dX0_term_59 : decode cX0_term 59 = .ok (.getfield 66, 3) := by decide +kernel
theorem dX0_term_62 : decode cX0_term 62 = .ok (.iconst 1, 1) := by decide +kernel
theorem dX0_term_63 : decode cX0_term 63 = .ok (.iadd, 1) := by decide +kernel
theorem dX0_term_64 : decode cX0_term 64 = .ok (.putfield 66, 3) := by decide +kernel
theorem dX0_term_67 : decode cX0_term 67 = .ok (.aload_n 0, 1) := by decide +kernel
theorem dX0_term_68 : decode cX0_term 68 = .ok (.iconst 0, 1) := by decide +kernel
theorem dX0_term_69 : decode cX0_term 69 = .ok (.putfield 47, 3) := by decide +kernel
theorem dX0_term_72 : decode cX0_term 72 = .ok (.aload_n 0, 1) := by decide +kernel
theorem dX0_term_73 : decode cX0_term 73 = .ok (.getfield 66, 3) := by decide +kernel
theorem dX0_term_76 : decode cX0_term 76 = .ok (.ireturn, 1) := by decide +kernel
abbrev cX0_clear : ByteArray := prog_1_method_7_code
def yX0_clear : MethodName := ⟨RX0, "clear", "()I"⟩
theorem dX0_clear_0 : decode cX0_clear 0 = .ok (.aload_n 0, 1) := by decide +kernel
theorem dX0_clear_1 : decode cX0_clear 1 = .ok (.getfield 59, 3) := by decide +kernel
theorem dX0_clear_4 : decode cX0_clear 4 = .ok (.istore_n 1, 1) := by decide +kernel
theorem dX0_clear_5 : decode cX0_clear 5 = .ok (.aload_n 0, 1) := by decide +kernel
theorem dX0_clear_6 : decode cX0_clear 6 = .ok (.iconst 0, 1) := by decide +kernel
theorem dX0_clear_7 : decode cX0_clear 7 = .ok (.putfield 59, 3) := by decide +kernel
theorem dX0_clear_10 : decode cX0_clear 10 = .ok (.aload_n 0, 1) := by decide +kernel
theorem dX0_clear_11 : decode cX0_clear 11 = .ok (.iconst 0, 1) := by decide +kernel
theorem dX0_clear_12 : decode cX0_clear 12 = .ok (.putfield 66, 3) := by decide +kernel
theorem dX0_clear_15 : decode cX0_clear 15 = .ok (.aload_n 0, 1) := by decide +kernel
theorem dX0_clear_16 : decode cX0_clear 16 = .ok (.iconst 0, 1) := by decide +kernel
theorem dX0_clear_17 : decode cX0_clear 17 = .ok (.putfield 47, 3) := by decide +kernel
theorem dX0_clear_20 : decode cX0_clear 20 = .ok (.iload_n 1, 1) := by decide +kernel
theorem dX0_clear_21 : decode cX0_clear 21 = .ok (.ireturn, 1) := by decide +kernel
abbrev cX0_nodes : ByteArray := prog_1_method_8_code
def yX0_nodes : MethodName := ⟨RX0, "nodes", "()I"⟩
theorem dX0_nodes_0 : decode cX0_nodes 0 = .ok (.aload_n 0, 1) := by decide +kernel
theorem dX0_nodes_1 : decode cX0_nodes 1 = .ok (.getfield 59, 3) := by decide +kernel
theorem dX0_nodes_4 : decode cX0_nodes 4 = .ok (.ireturn, 1) := by decide +kernel
abbrev cX0_terms : ByteArray := prog_1_method_9_code
def yX0_terms : MethodName := ⟨RX0, "terms", "()I"⟩
theorem dX0_terms_0 : decode cX0_terms 0 = .ok (.aload_n 0, 1) := by decide +kernel
theorem dX0_terms_1 : decode cX0_terms 1 = .ok (.getfield 66, 3) := by decide +kernel
theorem dX0_terms_4 : decode cX0_terms 4 = .ok (.ireturn, 1) := by decide +kernel
abbrev cX0_place : ByteArray := prog_1_method_10_code
def yX0_place : MethodName := ⟨RX0, "place", "(III)I"⟩
theorem dX0_place_0 : decode cX0_place 0 = .ok (.iload_n 1, 1) := by decide +kernel
theorem dX0_place_1 : decode cX0_place 1 = .ok (.invokestatic 69, 3) := by decide +kernel
theorem dX0_place_4 : decode cX0_place 4 = .ok (.ifCond .ne 5, 3) := by decide +kernel
theorem dX0_place_7 : decode cX0_place 7 = .ok (.iconst (-1), 1) := by decide +kernel
theorem dX0_place_8 : decode cX0_place 8 = .ok (.ireturn, 1) := by decide +kernel
theorem dX0_place_9 : decode cX0_place 9 = .ok (.iload_n 2, 1) := by decide +kernel
theorem dX0_place_10 : decode cX0_place 10 = .ok (.invokestatic 51, 3) := by decide +kernel
theorem dX0_place_13 : decode cX0_place 13 = .ok (.ifCond .ne 6, 3) := by decide +kernel
theorem dX0_place_16 : decode cX0_place 16 = .ok (.bipush (-2), 2) := by decide +kernel
theorem dX0_place_18 : decode cX0_place 18 = .ok (.ireturn, 1) := by decide +kernel
theorem dX0_place_19 : decode cX0_place 19 = .ok (.aload_n 0, 1) := by decide +kernel
theorem dX0_place_20 : decode cX0_place 20 = .ok (.getfield 25, 3) := by decide +kernel
theorem dX0_place_23 : decode cX0_place 23 = .ok (.iconst 4, 1) := by decide +kernel
theorem dX0_place_24 : decode cX0_place 24 = .ok (.iload_n 1, 1) := by decide +kernel
theorem dX0_place_25 : decode cX0_place 25 = .ok (.imul, 1) := by decide +kernel
theorem dX0_place_26 : decode cX0_place 26 = .ok (.iload_n 2, 1) := by decide +kernel
theorem dX0_place_27 : decode cX0_place 27 = .ok (.iadd, 1) := by decide +kernel
theorem dX0_place_28 : decode cX0_place 28 = .ok (.iload_n 3, 1) := by decide +kernel
theorem dX0_place_29 : decode cX0_place 29 = .ok (.iastore, 1) := by decide +kernel
theorem dX0_place_30 : decode cX0_place 30 = .ok (.iconst 0, 1) := by decide +kernel
theorem dX0_place_31 : decode cX0_place 31 = .ok (.ireturn, 1) := by decide +kernel
abbrev cX0_isChain : ByteArray := prog_1_method_24_code
def yX0_isChain : MethodName := ⟨RX0, "isChain", "(I)Z"⟩
theorem dX0_isChain_0 : decode cX0_isChain 0 = .ok (.iload_n 0, 1) := by decide +kernel
theorem dX0_isChain_1 : decode cX0_isChain 1 = .ok (.ifCond .lt 12, 3) := by decide +kernel
theorem dX0_isChain_4 : decode cX0_isChain 4 = .ok (.iload_n 0, 1) := by decide +kernel
theorem dX0_isChain_5 : decode cX0_isChain 5 = .ok (.iconst 2, 1) := by decide +kernel
theorem dX0_isChain_6 : decode cX0_isChain 6 = .ok (.if_icmp .gt 7, 3) := by decide +kernel
theorem dX0_isChain_9 : decode cX0_isChain 9 = .ok (.iconst 1, 1) := by decide +kernel
theorem dX0_isChain_10 : decode cX0_isChain 10 = .ok (.goto 4, 3) := by decide +kernel
theorem dX0_isChain_13 : decode cX0_isChain 13 = .ok (.iconst 0, 1) := by decide +kernel
theorem dX0_isChain_14 : decode cX0_isChain 14 = .ok (.ireturn, 1) := by decide +kernel
abbrev cX0_push : ByteArray := prog_1_method_11_code
def yX0_push : MethodName := ⟨RX0, "push", "(III)I"⟩
theorem dX0_push_0 : decode cX0_push 0 = .ok (.iload_n 1, 1) := by decide +kernel
theorem dX0_push_1 : decode cX0_push 1 = .ok (.invokestatic 69, 3) := by decide +kernel
theorem dX0_push_4 : decode cX0_push 4 = .ok (.ifCond .ne 5, 3) := by decide +kernel
theorem dX0_push_7 : decode cX0_push 7 = .ok (.iconst (-1), 1) := by decide +kernel
theorem dX0_push_8 : decode cX0_push 8 = .ok (.ireturn, 1) := by decide +kernel
theorem dX0_push_9 : decode cX0_push 9 = .ok (.iload_n 2, 1) := by decide +kernel
theorem dX0_push_10 : decode cX0_push 10 = .ok (.invokestatic 51, 3) := by decide +kernel
theorem dX0_push_13 : decode cX0_push 13 = .ok (.ifCond .ne 6, 3) := by decide +kernel
theorem dX0_push_16 : decode cX0_push 16 = .ok (.bipush (-2), 2) := by decide +kernel
theorem dX0_push_18 : decode cX0_push 18 = .ok (.ireturn, 1) := by decide +kernel
theorem dX0_push_19 : decode cX0_push 19 = .ok (.aload_n 0, 1) := by decide +kernel
theorem dX0_push_20 : decode cX0_push 20 = .ok (.getfield 28, 3) := by decide +kernel
theorem dX0_push_23 : decode cX0_push 23 = .ok (.iconst 4, 1) := by decide +kernel
theorem dX0_push_24 : decode cX0_push 24 = .ok (.iload_n 1, 1) := by decide +kernel
theorem dX0_push_25 : decode cX0_push 25 = .ok (.imul, 1) := by decide +kernel
theorem dX0_push_26 : decode cX0_push 26 = .ok (.iload_n 2, 1) := by decide +kernel
theorem dX0_push_27 : decode cX0_push 27 = .ok (.iadd, 1) := by decide +kernel
theorem dX0_push_28 : decode cX0_push 28 = .ok (.iload_n 3, 1) := by decide +kernel
theorem dX0_push_29 : decode cX0_push 29 = .ok (.iastore, 1) := by decide +kernel
theorem dX0_push_30 : decode cX0_push 30 = .ok (.iconst 0, 1) := by decide +kernel
theorem dX0_push_31 : decode cX0_push 31 = .ok (.ireturn, 1) := by decide +kernel
abbrev cX0_shift : ByteArray := prog_1_method_12_code
def yX0_shift : MethodName := ⟨RX0, "shift", "(I)I"⟩
theorem dX0_shift_0 : decode cX0_shift 0 = .ok (.iload_n 1, 1) := by decide +kernel
theorem dX0_shift_1 : decode cX0_shift 1 = .ok (.ifCond .lt 9, 3) := by decide +kernel
theorem dX0_shift_4 : decode cX0_shift 4 = .ok (.iload_n 1, 1) := by decide +kernel
theorem dX0_shift_5 : decode cX0_shift 5 = .ok (.bipush 20, 2) := by decide +kernel
theorem dX0_shift_7 : decode cX0_shift 7 = .ok (.if_icmp .le 5, 3) := by decide +kernel
theorem dX0_shift_10 : decode cX0_shift 10 = .ok (.iconst (-1), 1) := by decide +kernel
theorem dX0_shift_11 : decode cX0_shift 11 = .ok (.ireturn, 1) := by decide +kernel
theorem dX0_shift_12 : decode cX0_shift 12 = .ok (.aload_n 0, 1) := by decide +kernel
theorem dX0_shift_13 : decode cX0_shift 13 = .ok (.getfield 72, 3) := by decide +kernel
theorem dX0_shift_16 : decode cX0_shift 16 = .ok (.istore_n 2, 1) := by decide +kernel
theorem dX0_shift_17 : decode cX0_shift 17 = .ok (.aload_n 0, 1) := by decide +kernel
theorem dX0_shift_18 : decode cX0_shift 18 = .ok (.iload_n 1, 1) := by decide +kernel
theorem dX0_shift_19 : decode cX0_shift 19 = .ok (.putfield 72, 3) := by decide +kernel
theorem dX0_shift_22 : decode cX0_shift 22 = .ok (.iload_n 2, 1) := by decide +kernel
theorem dX0_shift_23 : decode cX0_shift 23 = .ok (.ireturn, 1) := by decide +kernel
abbrev cX0_position : ByteArray := prog_1_method_13_code
def yX0_position : MethodName := ⟨RX0, "position", "(II)I"⟩
theorem dX0_position_0 : decode cX0_position 0 = .ok (.iload_n 1, 1) := by decide +kernel
theorem dX0_position_1 : decode cX0_position 1 = .ok (.invokestatic 69, 3) := by decide +kernel
theorem dX0_position_4 : decode cX0_position 4 = .ok (.ifCond .eq 23, 3) := by decide +kernel
theorem dX0_position_7 : decode cX0_position 7 = .ok (.iload_n 2, 1) := by decide +kernel
theorem dX0_position_8 : decode cX0_position 8 = .ok (.invokestatic 51, 3) := by decide +kernel
theorem dX0_position_11 : decode cX0_position 11 = .ok (.ifCond .eq 16, 3) := by decide +kernel
theorem dX0_position_14 : decode cX0_position 14 = .ok (.aload_n 0, 1) := by decide +kernel
theorem dX0_position_15 : decode cX0_position 15 = .ok (.getfield 25, 3) := by decide +kernel
theorem dX0_position_18 : decode cX0_position 18 = .ok (.iconst 4, 1) := by decide +kernel
theorem dX0_position_19 : decode cX0_position 19 = .ok (.iload_n 1, 1) := by decide +kernel
theorem dX0_position_20 : decode cX0_position 20 = .ok (.imul, 1) := by decide +kernel
theorem dX0_position_21 : decode cX0_position 21 = .ok (.iload_n 2, 1) := by decide +kernel
theorem dX0_position_22 : decode cX0_position 22 = .ok (.iadd, 1) := by decide +kernel
theorem dX0_position_23 : decode cX0_position 23 = .ok (.iaload, 1) := by decide +kernel
theorem dX0_position_24 : decode cX0_position 24 = .ok (.goto 4, 3) := by decide +kernel
theorem dX0_position_27 : decode cX0_position 27 = .ok (.iconst 0, 1) := by decide +kernel
theorem dX0_position_28 : decode cX0_position 28 = .ok (.ireturn, 1) := by decide +kernel
abbrev cX0_momentum : ByteArray := prog_1_method_14_code
def yX0_momentum : MethodName := ⟨RX0, "momentum", "(II)I"⟩
theorem dX0_momentum_0 : decode cX0_momentum 0 = .ok (.iload_n 1, 1) := by decide +kernel
theorem dX0_momentum_1 : decode cX0_momentum 1 = .ok (.invokestatic 69, 3) := by decide +kernel
theorem dX0_momentum_4 : decode cX0_momentum 4 = .ok (.ifCond .eq 23, 3) := by decide +kernel
theorem dX0_momentum_7 : decode cX0_momentum 7 = .ok (.iload_n 2, 1) := by decide +kernel
theorem dX0_momentum_8 : decode cX0_momentum 8 = .ok (.invokestatic 51, 3) := by decide +kernel
theorem dX0_momentum_11 : decode cX0_momentum 11 = .ok (.ifCond .eq 16, 3) := by decide +kernel
theorem dX0_momentum_14 : decode cX0_momentum 14 = .ok (.aload_n 0, 1) := by decide +kernel
theorem dX0_momentum_15 : decode cX0_momentum 15 = .ok (.getfield 28, 3) := by decide +kernel
theorem dX0_momentum_18 : decode cX0_momentum 18 = .ok (.iconst 4, 1) := by decide +kernel
theorem dX0_momentum_19 : decode cX0_momentum 19 = .ok (.iload_n 1, 1) := by decide +kernel
theorem dX0_momentum_20 : decode cX0_momentum 20 = .ok (.imul, 1) := by decide +kernel
theorem dX0_momentum_21 : decode cX0_momentum 21 = .ok (.iload_n 2, 1) := by decide +kernel
theorem dX0_momentum_22 : decode cX0_momentum 22 = .ok (.iadd, 1) := by decide +kernel
theorem dX0_momentum_23 : decode cX0_momentum 23 = .ok (.iaload, 1) := by decide +kernel
theorem dX0_momentum_24 : decode cX0_momentum 24 = .ok (.goto 4, 3) := by decide +kernel
theorem dX0_momentum_27 : decode cX0_momentum 27 = .ok (.iconst 0, 1) := by decide +kernel
theorem dX0_momentum_28 : decode cX0_momentum 28 = .ok (.ireturn, 1) := by decide +kernel
end
section
set_option maxRecDepth 100000
abbrev cX0_valueOf : ByteArray := prog_1_method_15_code
def yX0_valueOf : MethodName := ⟨RX0, "valueOf", "(II)I"⟩
theorem dX0_valueOf_0 : decode cX0_valueOf 0 = .ok (.iload_n 1, 1) := by decide +kernel
theorem dX0_valueOf_1 : decode cX0_valueOf 1 = .ok (.invokestatic 69, 3) := by decide +kernel
theorem dX0_valueOf_4 : decode cX0_valueOf 4 = .ok (.ifCond .eq 11, 3) := by decide +kernel
theorem dX0_valueOf_7 : decode cX0_valueOf 7 = .ok (.aload_n 0, 1) := by decide +kernel
theorem dX0_valueOf_8 : decode cX0_valueOf 8 = .ok (.iload_n 2, 1) := by decide +kernel
theorem dX0_valueOf_9 : decode cX0_valueOf 9 = .ok (.invokevirtual 63, 3) := by decide +kernel
theorem dX0_valueOf_12 : decode cX0_valueOf 12 = .ok (.ifCond .ne 5, 3) := by decide +kernel
theorem dX0_valueOf_15 : decode cX0_valueOf 15 = .ok (.iconst 0, 1) := by decide +kernel
theorem dX0_valueOf_16 : decode cX0_valueOf 16 = .ok (.ireturn, 1) := by decide +kernel
theorem dX0_valueOf_17 : decode cX0_valueOf 17 = .ok (.iconst 0, 1) := by decide +kernel
theorem dX0_valueOf_18 : decode cX0_valueOf 18 = .ok (.istore_n 3, 1) := by decide +kernel
theorem dX0_valueOf_19 : decode cX0_valueOf 19 = .ok (.iload_n 3, 1) := by decide +kernel
theorem dX0_valueOf_20 : decode cX0_valueOf 20 = .ok (.iload_n 2, 1) := by decide +kernel
theorem dX0_valueOf_21 : decode cX0_valueOf 21 = .ok (.if_icmp .gt 23, 3) := by decide +kernel
theorem dX0_valueOf_24 : decode cX0_valueOf 24 = .ok (.aload_n 0, 1) := by decide +kernel
theorem dX0_valueOf_25 : decode cX0_valueOf 25 = .ok (.getfield 31, 3) := by decide +kernel
theorem dX0_valueOf_28 : decode cX0_valueOf 28 = .ok (.iload_n 3, 1) := by decide +kernel
theorem dX0_valueOf_29 : decode cX0_valueOf 29 = .ok (.aload_n 0, 1) := by decide +kernel
theorem dX0_valueOf_30 : decode cX0_valueOf 30 = .ok (.iload_n 3, 1) := by decide +kernel
theorem dX0_valueOf_31 : decode cX0_valueOf 31 = .ok (.iconst 4, 1) := by decide +kernel
theorem dX0_valueOf_32 : decode cX0_valueOf 32 = .ok (.iload_n 1, 1) := by decide +kernel
theorem dX0_valueOf_33 : decode cX0_valueOf 33 = .ok (.imul, 1) := by decide +kernel
theorem dX0_valueOf_34 : decode cX0_valueOf 34 = .ok (.invokevirtual 75, 3) := by decide +kernel
theorem dX0_valueOf_37 : decode cX0_valueOf 37 = .ok (.iastore, 1) := by decide +kernel
theorem dX0_valueOf_38 : decode cX0_valueOf 38 = .ok (.iinc 3 1, 3) := by decide +kernel
theorem dX0_valueOf_41 : decode cX0_valueOf 41 = .ok (.goto (-22), 3) := by decide +kernel
theorem dX0_valueOf_44 : decode cX0_valueOf 44 = .ok (.aload_n 0, 1) := by decide +kernel
theorem dX0_valueOf_45 : decode cX0_valueOf 45 = .ok (.getfield 31, 3) := by decide +kernel
theorem dX0_valueOf_48 : decode cX0_valueOf 48 = .ok (.iload_n 2, 1) := by decide +kernel
theorem dX0_valueOf_49 : decode cX0_valueOf 49 = .ok (.iaload, 1) := by decide +kernel
theorem dX0_valueOf_50 : decode cX0_valueOf 50 = .ok (.ireturn, 1) := by decide +kernel
abbrev cX0_computed : ByteArray := prog_1_method_30_code
def yX0_computed : MethodName := ⟨RX0, "computed", "(II)I"⟩
theorem dX0_computed_0 : decode cX0_computed 0 = .ok (.aload_n 0, 1) := by decide +kernel
theorem dX0_computed_1 : decode cX0_computed 1 = .ok (.getfield 7, 3) := by decide +kernel
theorem dX0_computed_4 : decode cX0_computed 4 = .ok (.iload_n 1, 1) := by decide +kernel
theorem dX0_computed_5 : decode cX0_computed 5 = .ok (.iaload, 1) := by decide +kernel
theorem dX0_computed_6 : decode cX0_computed 6 = .ok (.istore_n 3, 1) := by decide +kernel
theorem dX0_computed_7 : decode cX0_computed 7 = .ok (.iload_n 3, 1) := by decide +kernel
theorem dX0_computed_8 : decode cX0_computed 8 = .ok (.ifCond .ne 17, 3) := by decide +kernel
theorem dX0_computed_11 : decode cX0_computed 11 = .ok (.aload_n 0, 1) := by decide +kernel
theorem dX0_computed_12 : decode cX0_computed 12 = .ok (.getfield 25, 3) := by decide +kernel
theorem dX0_computed_15 : decode cX0_computed 15 = .ok (.iload_n 2, 1) := by decide +kernel
theorem dX0_computed_16 : decode cX0_computed 16 = .ok (.aload_n 0, 1) := by decide +kernel
theorem dX0_computed_17 : decode cX0_computed 17 = .ok (.getfield 13, 3) := by decide +kernel
theorem dX0_computed_20 : decode cX0_computed 20 = .ok (.iload_n 1, 1) := by decide +kernel
theorem dX0_computed_21 : decode cX0_computed 21 = .ok (.iaload, 1) := by decide +kernel
theorem dX0_computed_22 : decode cX0_computed 22 = .ok (.iadd, 1) := by decide +kernel
theorem dX0_computed_23 : decode cX0_computed 23 = .ok (.iaload, 1) := by decide +kernel
theorem dX0_computed_24 : decode cX0_computed 24 = .ok (.ireturn, 1) := by decide +kernel
theorem dX0_computed_25 : decode cX0_computed 25 = .ok (.iload_n 3, 1) := by decide +kernel
theorem dX0_computed_26 : decode cX0_computed 26 = .ok (.iconst 1, 1) := by decide +kernel
theorem dX0_computed_27 : decode cX0_computed 27 = .ok (.if_icmp .ne 10, 3) := by decide +kernel
theorem dX0_computed_30 : decode cX0_computed 30 = .ok (.aload_n 0, 1) := by decide +kernel
theorem dX0_computed_31 : decode cX0_computed 31 = .ok (.getfield 13, 3) := by decide +kernel
theorem dX0_computed_34 : decode cX0_computed 34 = .ok (.iload_n 1, 1) := by decide +kernel
theorem dX0_computed_35 : decode cX0_computed 35 = .ok (.iaload, 1) := by decide +kernel
theorem dX0_computed_36 : decode cX0_computed 36 = .ok (.ireturn, 1) := by decide +kernel
theorem dX0_computed_37 : decode cX0_computed 37 = .ok (.aload_n 0, 1) := by decide +kernel
theorem dX0_computed_38 : decode cX0_computed 38 = .ok (.getfield 31, 3) := by decide +kernel
theorem dX0_computed_41 : decode cX0_computed 41 = .ok (.aload_n 0, 1) := by decide +kernel
theorem dX0_computed_42 : decode cX0_computed 42 = .ok (.getfield 13, 3) := by decide +kernel
theorem dX0_computed_45 : decode cX0_computed 45 = .ok (.iload_n 1, 1) := by decide +kernel
theorem dX0_computed_46 : decode cX0_computed 46 = .ok (.iaload, 1) := by decide +kernel
theorem dX0_computed_47 : decode cX0_computed 47 = .ok (.iaload, 1) := by decide +kernel
theorem dX0_computed_48 : decode cX0_computed 48 = .ok (.istore 4, 2) := by decide +kernel
theorem dX0_computed_50 : decode cX0_computed 50 = .ok (.aload_n 0, 1) := by decide +kernel
theorem dX0_computed_51 : decode cX0_computed 51 = .ok (.getfield 31, 3) := by decide +kernel
theorem dX0_computed_54 : decode cX0_computed 54 = .ok (.aload_n 0, 1) := by decide +kernel
theorem dX0_computed_55 : decode cX0_computed 55 = .ok (.getfield 16, 3) := by decide +kernel
theorem dX0_computed_58 : decode cX0_computed 58 = .ok (.iload_n 1, 1) := by decide +kernel
theorem dX0_computed_59 : decode cX0_computed 59 = .ok (.iaload, 1) := by decide +kernel
theorem dX0_computed_60 : decode cX0_computed 60 = .ok (.iaload, 1) := by decide +kernel
theorem dX0_computed_61 : decode cX0_computed 61 = .ok (.istore 5, 2) := by decide +kernel
theorem dX0_computed_63 : decode cX0_computed 63 = .ok (.iload_n 3, 1) := by decide +kernel
theorem dX0_computed_64 : decode cX0_computed 64 = .ok (.iconst 2, 1) := by decide +kernel
theorem dX0_computed_65 : decode cX0_computed 65 = .ok (.if_icmp .ne 9, 3) := by decide +kernel
theorem dX0_computed_68 : decode cX0_computed 68 = .ok (.iload 4, 2) := by decide +kernel
theorem dX0_computed_70 : decode cX0_computed 70 = .ok (.iload 5, 2) := by decide +kernel
theorem dX0_computed_72 : decode cX0_computed 72 = .ok (.iadd, 1) := by decide +kernel
theorem dX0_computed_73 : decode cX0_computed 73 = .ok (.ireturn, 1) := by decide +kernel
theorem dX0_computed_74 : decode cX0_computed 74 = .ok (.iload_n 3, 1) := by decide +kernel
theorem dX0_computed_75 : decode cX0_computed 75 = .ok (.iconst 3, 1) := by decide +kernel
theorem dX0_computed_76 : decode cX0_computed 76 = .ok (.if_icmp .ne 11, 3) := by decide +kernel
theorem dX0_computed_79 : decode cX0_computed 79 = .ok (.iload 4, 2) := by decide +kernel
theorem dX0_computed_81 : decode cX0_computed 81 = .ok (.iload 5, 2) := by decide +kernel
theorem dX0_computed_83 : decode cX0_computed 83 = .ok (.isub, 1) := by decide +kernel
theorem dX0_computed_84 : decode cX0_computed 84 = .ok (.goto 8, 3) := by decide +kernel
theorem dX0_computed_87 : decode cX0_computed 87 = .ok (.iload 4, 2) := by decide +kernel
theorem dX0_computed_89 : decode cX0_computed 89 = .ok (.iload 5, 2) := by decide +kernel
theorem dX0_computed_91 : decode cX0_computed 91 = .ok (.imul, 1) := by decide +kernel
theorem dX0_computed_92 : decode cX0_computed 92 = .ok (.ireturn, 1) := by decide +kernel
abbrev cX0_target : ByteArray := prog_1_method_16_code
def yX0_target : MethodName := ⟨RX0, "target", "(I)I"⟩
theorem dX0_target_0 : decode cX0_target 0 = .ok (.iload_n 1, 1) := by decide +kernel
theorem dX0_target_1 : decode cX0_target 1 = .ok (.invokestatic 69, 3) := by decide +kernel
theorem dX0_target_4 : decode cX0_target 4 = .ok (.ifCond .ne 5, 3) := by decide +kernel
theorem dX0_target_7 : decode cX0_target 7 = .ok (.iconst 0, 1) := by decide +kernel
theorem dX0_target_8 : decode cX0_target 8 = .ok (.ireturn, 1) := by decide +kernel
theorem dX0_target_9 : decode cX0_target 9 = .ok (.aload_n 0, 1) := by decide +kernel
theorem dX0_target_10 : decode cX0_target 10 = .ok (.iconst 4, 1) := by decide +kernel
theorem dX0_target_11 : decode cX0_target 11 = .ok (.iload_n 1, 1) := by decide +kernel
theorem dX0_target_12 : decode cX0_target 12 = .ok (.imul, 1) := by decide +kernel
theorem dX0_target_13 : decode cX0_target 13 = .ok (.invokevirtual 79, 3) := by decide +kernel
theorem dX0_target_16 : decode cX0_target 16 = .ok (.ireturn, 1) := by decide +kernel
abbrev cX0_evaluate : ByteArray := prog_1_method_32_code
def yX0_evaluate : MethodName := ⟨RX0, "evaluate", "(I)I"⟩
theorem dX0_evaluate_0 : decode cX0_evaluate 0 = .ok (.aload_n 0, 1) := by decide +kernel
theorem dX0_evaluate_1 : decode cX0_evaluate 1 = .ok (.invokevirtual 93, 3) := by decide +kernel
theorem dX0_evaluate_4 : decode cX0_evaluate 4 = .ok (.iconst 0, 1) := by decide +kernel
theorem dX0_evaluate_5 : decode cX0_evaluate 5 = .ok (.istore_n 2, 1) := by decide +kernel
theorem dX0_evaluate_6 : decode cX0_evaluate 6 = .ok (.iload_n 2, 1) := by decide +kernel
theorem dX0_evaluate_7 : decode cX0_evaluate 7 = .ok (.aload_n 0, 1) := by decide +kernel
theorem dX0_evaluate_8 : decode cX0_evaluate 8 = .ok (.getfield 59, 3) := by decide +kernel
theorem dX0_evaluate_11 : decode cX0_evaluate 11 = .ok (.if_icmp .ge 30, 3) := by decide +kernel
theorem dX0_evaluate_14 : decode cX0_evaluate 14 = .ok (.aload_n 0, 1) := by decide +kernel
theorem dX0_evaluate_15 : decode cX0_evaluate 15 = .ok (.getfield 40, 3) := by decide +kernel
theorem dX0_evaluate_18 : decode cX0_evaluate 18 = .ok (.iload_n 2, 1) := by decide +kernel
theorem dX0_evaluate_19 : decode cX0_evaluate 19 = .ok (.baload, 1) := by decide +kernel
theorem dX0_evaluate_20 : decode cX0_evaluate 20 = .ok (.ifCond .eq 15, 3) := by decide +kernel
theorem dX0_evaluate_23 : decode cX0_evaluate 23 = .ok (.aload_n 0, 1) := by decide +kernel
theorem dX0_evaluate_24 : decode cX0_evaluate 24 = .ok (.getfield 31, 3) := by decide +kernel
theorem dX0_evaluate_27 : decode cX0_evaluate 27 = .ok (.iload_n 2, 1) := by decide +kernel
theorem dX0_evaluate_28 : decode cX0_evaluate 28 = .ok (.aload_n 0, 1) := by decide +kernel
theorem dX0_evaluate_29 : decode cX0_evaluate 29 = .ok (.iload_n 2, 1) := by decide +kernel
theorem dX0_evaluate_30 : decode cX0_evaluate 30 = .ok (.iload_n 1, 1) := by decide +kernel
theorem dX0_evaluate_31 : decode cX0_evaluate 31 = .ok (.invokevirtual 75, 3) := by decide +kernel
theorem dX0_evaluate_34 : decode cX0_evaluate 34 = .ok (.iastore, 1) := by decide +kernel
theorem dX0_evaluate_35 : decode cX0_evaluate 35 = .ok (.iinc 2 1, 3) := by decide +kernel
theorem dX0_evaluate_38 : decode cX0_evaluate 38 = .ok (.goto (-32), 3) := by decide +kernel
theorem dX0_evaluate_41 : decode cX0_evaluate 41 = .ok (.iconst 0, 1) := by decide +kernel
theorem dX0_evaluate_42 : decode cX0_evaluate 42 = .ok (.istore_n 2, 1) := by decide +kernel
theorem dX0_evaluate_43 : decode cX0_evaluate 43 = .ok (.iconst 0, 1) := by decide +kernel
theorem dX0_evaluate_44 : decode cX0_evaluate 44 = .ok (.istore_n 3, 1) := by decide +kernel
theorem dX0_evaluate_45 : decode cX0_evaluate 45 = .ok (.iload_n 3, 1) := by decide +kernel
theorem dX0_evaluate_46 : decode cX0_evaluate 46 = .ok (.aload_n 0, 1) := by decide +kernel
theorem dX0_evaluate_47 : decode cX0_evaluate 47 = .ok (.getfield 66, 3) := by decide +kernel
theorem dX0_evaluate_50 : decode cX0_evaluate 50 = .ok (.if_icmp .ge 30, 3) := by decide +kernel
theorem dX0_evaluate_53 : decode cX0_evaluate 53 = .ok (.iload_n 2, 1) := by decide +kernel
theorem dX0_evaluate_54 : decode cX0_evaluate 54 = .ok (.aload_n 0, 1) := by decide +kernel
theorem dX0_evaluate_55 : decode cX0_evaluate 55 = .ok (.getfield 22, 3) := by decide +kernel
theorem dX0_evaluate_58 : decode cX0_evaluate 58 = .ok (.iload_n 3, 1) := by decide +kernel
theorem dX0_evaluate_59 : decode cX0_evaluate 59 = .ok (.iaload, 1) := by decide +kernel
theorem dX0_evaluate_60 : decode cX0_evaluate 60 = .ok (.aload_n 0, 1) := by decide +kernel
theorem dX0_evaluate_61 : decode cX0_evaluate 61 = .ok (.getfield 31, 3) := by decide +kernel
theorem dX0_evaluate_64 : decode cX0_evaluate 64 = .ok (.aload_n 0, 1) := by decide +kernel
theorem dX0_evaluate_65 : decode cX0_evaluate 65 = .ok (.getfield 19, 3) := by decide +kernel
theorem dX0_evaluate_68 : decode cX0_evaluate 68 = .ok (.iload_n 3, 1) := by decide +kernel
theorem dX0_evaluate_69 : decode cX0_evaluate 69 = .ok (.iaload, 1) := by decide +kernel
theorem dX0_evaluate_70 : decode cX0_evaluate 70 = .ok (.iaload, 1) := by decide +kernel
theorem dX0_evaluate_71 : decode cX0_evaluate 71 = .ok (.imul, 1) := by decide +kernel
theorem dX0_evaluate_72 : decode cX0_evaluate 72 = .ok (.iadd, 1) := by decide +kernel
theorem dX0_evaluate_73 : decode cX0_evaluate 73 = .ok (.istore_n 2, 1) := by decide +kernel
theorem dX0_evaluate_74 : decode cX0_evaluate 74 = .ok (.iinc 3 1, 3) := by decide +kernel
theorem dX0_evaluate_77 : decode cX0_evaluate 77 = .ok (.goto (-32), 3) := by decide +kernel
theorem dX0_evaluate_80 : decode cX0_evaluate 80 = .ok (.iload_n 2, 1) := by decide +kernel
theorem dX0_evaluate_81 : decode cX0_evaluate 81 = .ok (.ireturn, 1) := by decide +kernel
abbrev cX0_mark : ByteArray := prog_1_method_29_code
def yX0_mark : MethodName := ⟨RX0, "mark", "()V"⟩
theorem dX0_mark_0 : decode cX0_mark 0 = .ok (.aload_n 0, 1) := by decide +kernel
theorem dX0_mark_1 : decode cX0_mark 1 = .ok (.getfield 47, 3) := by decide +kernel
theorem dX0_mark_4 : decode cX0_mark 4 = .ok (.ifCond .eq 4, 3) := by decide +kernel
theorem dX0_mark_7 : decode cX0_mark 7 = .ok (.return_, 1) := by decide +kernel
theorem dX0_mark_8 : decode cX0_mark 8 = .ok (.aload_n 0, 1) := by decide +kernel
theorem dX0_mark_9 : decode cX0_mark 9 = .ok (.iconst 1, 1) := by decide +kernel
theorem dX0_mark_10 : decode cX0_mark 10 = .ok (.putfield 47, 3) := by decide +kernel
theorem dX0_mark_13 : decode cX0_mark 13 = .ok (.iconst 0, 1) := by decide +kernel
theorem dX0_mark_14 : decode cX0_mark 14 = .ok (.istore_n 1, 1) := by decide +kernel
theorem dX0_mark_15 : decode cX0_mark 15 = .ok (.iload_n 1, 1) := by decide +kernel
theorem dX0_mark_16 : decode cX0_mark 16 = .ok (.bipush 24, 2) := by decide +kernel
theorem dX0_mark_18 : decode cX0_mark 18 = .ok (.if_icmp .ge 16, 3) := by decide +kernel
theorem dX0_mark_21 : decode cX0_mark 21 = .ok (.aload_n 0, 1) := by decide +kernel
theorem dX0_mark_22 : decode cX0_mark 22 = .ok (.getfield 40, 3) := by decide +kernel
theorem dX0_mark_25 : decode cX0_mark 25 = .ok (.iload_n 1, 1) := by decide +kernel
theorem dX0_mark_26 : decode cX0_mark 26 = .ok (.iconst 0, 1) := by decide +kernel
theorem dX0_mark_27 : decode cX0_mark 27 = .ok (.bastore, 1) := by decide +kernel
theorem dX0_mark_28 : decode cX0_mark 28 = .ok (.iinc 1 1, 3) := by decide +kernel
theorem dX0_mark_31 : decode cX0_mark 31 = .ok (.goto (-16), 3) := by decide +kernel
theorem dX0_mark_34 : decode cX0_mark 34 = .ok (.iconst 0, 1) := by decide +kernel
theorem dX0_mark_35 : decode cX0_mark 35 = .ok (.istore_n 1, 1) := by decide +kernel
theorem dX0_mark_36 : decode cX0_mark 36 = .ok (.iload_n 1, 1) := by decide +kernel
theorem dX0_mark_37 : decode cX0_mark 37 = .ok (.aload_n 0, 1) := by decide +kernel
theorem dX0_mark_38 : decode cX0_mark 38 = .ok (.getfield 66, 3) := by decide +kernel
theorem dX0_mark_41 : decode cX0_mark 41 = .ok (.if_icmp .ge 21, 3) := by decide +kernel
theorem dX0_mark_44 : decode cX0_mark 44 = .ok (.aload_n 0, 1) := by decide +kernel
theorem dX0_mark_45 : decode cX0_mark 45 = .ok (.getfield 40, 3) := by decide +kernel
theorem dX0_mark_48 : decode cX0_mark 48 = .ok (.aload_n 0, 1) := by decide +kernel
theorem dX0_mark_49 : decode cX0_mark 49 = .ok (.getfield 19, 3) := by decide +kernel
theorem dX0_mark_52 : decode cX0_mark 52 = .ok (.iload_n 1, 1) := by decide +kernel
theorem dX0_mark_53 : decode cX0_mark 53 = .ok (.iaload, 1) := by decide +kernel
theorem dX0_mark_54 : decode cX0_mark 54 = .ok (.iconst 1, 1) := by decide +kernel
theorem dX0_mark_55 : decode cX0_mark 55 = .ok (.bastore, 1) := by decide +kernel
theorem dX0_mark_56 : decode cX0_mark 56 = .ok (.iinc 1 1, 3) := by decide +kernel
theorem dX0_mark_59 : decode cX0_mark 59 = .ok (.goto (-23), 3) := by decide +kernel
theorem dX0_mark_62 : decode cX0_mark 62 = .ok (.aload_n 0, 1) := by decide +kernel
theorem dX0_mark_63 : decode cX0_mark 63 = .ok (.getfield 59, 3) := by decide +kernel
theorem dX0_mark_66 : decode cX0_mark 66 = .ok (.iconst 1, 1) := by decide +kernel
theorem dX0_mark_67 : decode cX0_mark 67 = .ok (.isub, 1) := by decide +kernel
theorem dX0_mark_68 : decode cX0_mark 68 = .ok (.istore_n 1, 1) := by decide +kernel
theorem dX0_mark_69 : decode cX0_mark 69 = .ok (.iload_n 1, 1) := by decide +kernel
theorem dX0_mark_70 : decode cX0_mark 70 = .ok (.ifCond .lt 54, 3) := by decide +kernel
theorem dX0_mark_73 : decode cX0_mark 73 = .ok (.aload_n 0, 1) := by decide +kernel
theorem dX0_mark_74 : decode cX0_mark 74 = .ok (.getfield 40, 3) := by decide +kernel
theorem dX0_mark_77 : decode cX0_mark 77 = .ok (.iload_n 1, 1) := by decide +kernel
theorem dX0_mark_78 : decode cX0_mark 78 = .ok (.baload, 1) := by decide +kernel
theorem dX0_mark_79 : decode cX0_mark 79 = .ok (.ifCond .eq 39, 3) := by decide +kernel
theorem dX0_mark_82 : decode cX0_mark 82 = .ok (.aload_n 0, 1) := by decide +kernel
theorem dX0_mark_83 : decode cX0_mark 83 = .ok (.getfield 7, 3) := by decide +kernel
theorem dX0_mark_86 : decode cX0_mark 86 = .ok (.iload_n 1, 1) := by decide +kernel
theorem dX0_mark_87 : decode cX0_mark 87 = .ok (.iaload, 1) := by decide +kernel
theorem dX0_mark_88 : decode cX0_mark 88 = .ok (.invokestatic 96, 3) := by decide +kernel
theorem dX0_mark_91 : decode cX0_mark 91 = .ok (.ifCond .eq 27, 3) := by decide +kernel
theorem dX0_mark_94 : decode cX0_mark 94 = .ok (.aload_n 0, 1) := by decide +kernel
theorem dX0_mark_95 : decode cX0_mark 95 = .ok (.getfield 40, 3) := by decide +kernel
theorem dX0_mark_98 : decode cX0_mark 98 = .ok (.aload_n 0, 1) := by decide +kernel
theorem dX0_mark_99 : decode cX0_mark 99 = .ok (.getfield 13, 3) := by decide +kernel
theorem dX0_mark_102 : decode cX0_mark 102 = .ok (.iload_n 1, 1) := by decide +kernel
theorem dX0_mark_103 : decode cX0_mark 103 = .ok (.iaload, 1) := by decide +kernel
theorem dX0_mark_104 : decode cX0_mark 104 = .ok (.iconst 1, 1) := by decide +kernel
theorem dX0_mark_105 : decode cX0_mark 105 = .ok (.bastore, 1) := by decide +kernel
theorem dX0_mark_106 : decode cX0_mark 106 = .ok (.aload_n 0, 1) := by decide +kernel
theorem dX0_mark_107 : decode cX0_mark 107 = .ok (.getfield 40, 3) := by decide +kernel
theorem dX0_mark_110 : decode cX0_mark 110 = .ok (.aload_n 0, 1) := by decide +kernel
theorem dX0_mark_111 : decode cX0_mark 111 = .ok (.getfield 16, 3) := by decide +kernel
theorem dX0_mark_114 : decode cX0_mark 114 = .ok (.iload_n 1, 1) := by decide +kernel
theorem dX0_mark_115 : decode cX0_mark 115 = .ok (.iaload, 1) := by decide +kernel
theorem dX0_mark_116 : decode cX0_mark 116 = .ok (.iconst 1, 1) := by decide +kernel
theorem dX0_mark_117 : decode cX0_mark 117 = .ok (.bastore, 1) := by decide +kernel
theorem dX0_mark_118 : decode cX0_mark 118 = .ok (.iinc 1 (-1), 3) := by decide +kernel
theorem dX0_mark_121 : decode cX0_mark 121 = .ok (.goto (-52), 3) := by decide +kernel
theorem dX0_mark_124 : decode cX0_mark 124 = .ok (.return_, 1) := by decide +kernel
abbrev cX0_hasParts : ByteArray := prog_1_method_28_code
def yX0_hasParts : MethodName := ⟨RX0, "hasParts", "(I)Z"⟩
theorem dX0_hasParts_0 : decode cX0_hasParts 0 = .ok (.iload_n 0, 1) := by decide +kernel
theorem dX0_hasParts_1 : decode cX0_hasParts 1 = .ok (.iconst 2, 1) := by decide +kernel
theorem dX0_hasParts_2 : decode cX0_hasParts 2 = .ok (.if_icmp .lt 7, 3) := by decide +kernel
theorem dX0_hasParts_5 : decode cX0_hasParts 5 = .ok (.iconst 1, 1) := by decide +kernel
theorem dX0_hasParts_6 : decode cX0_hasParts 6 = .ok (.goto 4, 3) := by decide +kernel
theorem dX0_hasParts_9 : decode cX0_hasParts 9 = .ok (.iconst 0, 1) := by decide +kernel
theorem dX0_hasParts_10 : decode cX0_hasParts 10 = .ok (.ireturn, 1) := by decide +kernel
abbrev cX0_slope : ByteArray := prog_1_method_17_code
def yX0_slope : MethodName := ⟨RX0, "slope", "(II)I"⟩
theorem dX0_slope_0 : decode cX0_slope 0 = .ok (.iload_n 1, 1) := by decide +kernel
theorem dX0_slope_1 : decode cX0_slope 1 = .ok (.invokestatic 69, 3) := by decide +kernel
theorem dX0_slope_4 : decode cX0_slope 4 = .ok (.ifCond .eq 10, 3) := by decide +kernel
theorem dX0_slope_7 : decode cX0_slope 7 = .ok (.iload_n 2, 1) := by decide +kernel
theorem dX0_slope_8 : decode cX0_slope 8 = .ok (.invokestatic 51, 3) := by decide +kernel
theorem dX0_slope_11 : decode cX0_slope 11 = .ok (.ifCond .ne 5, 3) := by decide +kernel
theorem dX0_slope_14 : decode cX0_slope 14 = .ok (.iconst 0, 1) := by decide +kernel
theorem dX0_slope_15 : decode cX0_slope 15 = .ok (.ireturn, 1) := by decide +kernel
theorem dX0_slope_16 : decode cX0_slope 16 = .ok (.aload_n 0, 1) := by decide +kernel
theorem dX0_slope_17 : decode cX0_slope 17 = .ok (.iconst 4, 1) := by decide +kernel
theorem dX0_slope_18 : decode cX0_slope 18 = .ok (.iload_n 1, 1) := by decide +kernel
theorem dX0_slope_19 : decode cX0_slope 19 = .ok (.imul, 1) := by decide +kernel
theorem dX0_slope_20 : decode cX0_slope 20 = .ok (.invokevirtual 83, 3) := by decide +kernel
theorem dX0_slope_23 : decode cX0_slope 23 = .ok (.aload_n 0, 1) := by decide +kernel
theorem dX0_slope_24 : decode cX0_slope 24 = .ok (.getfield 44, 3) := by decide +kernel
theorem dX0_slope_27 : decode cX0_slope 27 = .ok (.iload_n 2, 1) := by decide +kernel
theorem dX0_slope_28 : decode cX0_slope 28 = .ok (.iaload, 1) := by decide +kernel
theorem dX0_slope_29 : decode cX0_slope 29 = .ok (.ireturn, 1) := by decide +kernel
abbrev cX0_sweep : ByteArray := prog_1_method_33_code
def yX0_sweep : MethodName := ⟨RX0, "sweep", "(I)V"⟩
theorem dX0_sweep_0 : decode cX0_sweep 0 = .ok (.aload_n 0, 1) := by decide +kernel
theorem dX0_sweep_1 : decode cX0_sweep 1 = .ok (.iload_n 1, 1) := by decide +kernel
theorem dX0_sweep_2 : decode cX0_sweep 2 = .ok (.invokevirtual 79, 3) := by decide +kernel
theorem dX0_sweep_5 : decode cX0_sweep 5 = .ok (.pop, 1) := by decide +kernel
theorem dX0_sweep_6 : decode cX0_sweep 6 = .ok (.iconst 0, 1) := by decide +kernel
theorem dX0_sweep_7 : decode cX0_sweep 7 = .ok (.istore_n 2, 1) := by decide +kernel
theorem dX0_sweep_8 : decode cX0_sweep 8 = .ok (.iload_n 2, 1) := by decide +kernel
theorem dX0_sweep_9 : decode cX0_sweep 9 = .ok (.aload_n 0, 1) := by decide +kernel
theorem dX0_sweep_10 : decode cX0_sweep 10 = .ok (.getfield 59, 3) := by decide +kernel
theorem dX0_sweep_13 : decode cX0_sweep 13 = .ok (.if_icmp .ge 16, 3) := by decide +kernel
theorem dX0_sweep_16 : decode cX0_sweep 16 = .ok (.aload_n 0, 1) := by decide +kernel
theorem dX0_sweep_17 : decode cX0_sweep 17 = .ok (.getfield 34, 3) := by decide +kernel
theorem dX0_sweep_20 : decode cX0_sweep 20 = .ok (.iload_n 2, 1) := by decide +kernel
theorem dX0_sweep_21 : decode cX0_sweep 21 = .ok (.iconst 0, 1) := by decide +kernel
theorem dX0_sweep_22 : decode cX0_sweep 22 = .ok (.iastore, 1) := by decide +kernel
theorem dX0_sweep_23 : decode cX0_sweep 23 = .ok (.iinc 2 1, 3) := by decide +kernel
theorem dX0_sweep_26 : decode cX0_sweep 26 = .ok (.goto (-18), 3) := by decide +kernel
theorem dX0_sweep_29 : decode cX0_sweep 29 = .ok (.iconst 0, 1) := by decide +kernel
theorem dX0_sweep_30 : decode cX0_sweep 30 = .ok (.istore_n 2, 1) := by decide +kernel
theorem dX0_sweep_31 : decode cX0_sweep 31 = .ok (.iload_n 2, 1) := by decide +kernel
theorem dX0_sweep_32 : decode cX0_sweep 32 = .ok (.iconst 4, 1) := by decide +kernel
theorem dX0_sweep_33 : decode cX0_sweep 33 = .ok (.if_icmp .ge 16, 3) := by decide +kernel
theorem dX0_sweep_36 : decode cX0_sweep 36 = .ok (.aload_n 0, 1) := by decide +kernel
theorem dX0_sweep_37 : decode cX0_sweep 37 = .ok (.getfield 44, 3) := by decide +kernel
theorem dX0_sweep_40 : decode cX0_sweep 40 = .ok (.iload_n 2, 1) := by decide +kernel
theorem dX0_sweep_41 : decode cX0_sweep 41 = .ok (.iconst 0, 1) := by decide +kernel
theorem dX0_sweep_42 : decode cX0_sweep 42 = .ok (.iastore, 1) := by decide +kernel
theorem dX0_sweep_43 : decode cX0_sweep 43 = .ok (.iinc 2 1, 3) := by decide +kernel
theorem dX0_sweep_46 : decode cX0_sweep 46 = .ok (.goto (-15), 3) := by decide +kernel
theorem dX0_sweep_49 : decode cX0_sweep 49 = .ok (.iconst 0, 1) := by decide +kernel
theorem dX0_sweep_50 : decode cX0_sweep 50 = .ok (.istore_n 2, 1) := by decide +kernel
theorem dX0_sweep_51 : decode cX0_sweep 51 = .ok (.iload_n 2, 1) := by decide +kernel
theorem dX0_sweep_52 : decode cX0_sweep 52 = .ok (.aload_n 0, 1) := by decide +kernel
theorem dX0_sweep_53 : decode cX0_sweep 53 = .ok (.getfield 66, 3) := by decide +kernel
theorem dX0_sweep_56 : decode cX0_sweep 56 = .ok (.if_icmp .ge 29, 3) := by decide +kernel
theorem dX0_sweep_59 : decode cX0_sweep 59 = .ok (.aload_n 0, 1) := by decide +kernel
theorem dX0_sweep_60 : decode cX0_sweep 60 = .ok (.getfield 34, 3) := by decide +kernel
theorem dX0_sweep_63 : decode cX0_sweep 63 = .ok (.aload_n 0, 1) := by decide +kernel
theorem dX0_sweep_64 : decode cX0_sweep 64 = .ok (.getfield 19, 3) := by decide +kernel
theorem dX0_sweep_67 : decode cX0_sweep 67 = .ok (.iload_n 2, 1) := by decide +kernel
theorem dX0_sweep_68 : decode cX0_sweep 68 = .ok (.iaload, 1) := by decide +kernel
theorem dX0_sweep_69 : decode cX0_sweep 69 = .ok (.dup2, 1) := by decide +kernel
theorem dX0_sweep_70 : decode cX0_sweep 70 = .ok (.iaload, 1) := by decide +kernel
theorem dX0_sweep_71 : decode cX0_sweep 71 = .ok (.aload_n 0, 1) := by decide +kernel
theorem dX0_sweep_72 : decode cX0_sweep 72 = .ok (.getfield 22, 3) := by decide +kernel
theorem dX0_sweep_75 : decode cX0_sweep 75 = .ok (.iload_n 2, 1) := by decide +kernel
theorem dX0_sweep_76 : decode cX0_sweep 76 = .ok (.iaload, 1) := by decide +kernel
theorem dX0_sweep_77 : decode cX0_sweep 77 = .ok (.iadd, 1) := by decide +kernel
theorem dX0_sweep_78 : decode cX0_sweep 78 = .ok (.iastore, 1) := by decide +kernel
theorem dX0_sweep_79 : decode cX0_sweep 79 = .ok (.iinc 2 1, 3) := by decide +kernel
theorem dX0_sweep_82 : decode cX0_sweep 82 = .ok (.goto (-31), 3) := by decide +kernel
theorem dX0_sweep_85 : decode cX0_sweep 85 = .ok (.aload_n 0, 1) := by decide +kernel
theorem dX0_sweep_86 : decode cX0_sweep 86 = .ok (.getfield 59, 3) := by decide +kernel
theorem dX0_sweep_89 : decode cX0_sweep 89 = .ok (.iconst 1, 1) := by decide +kernel
theorem dX0_sweep_90 : decode cX0_sweep 90 = .ok (.isub, 1) := by decide +kernel
theorem dX0_sweep_91 : decode cX0_sweep 91 = .ok (.istore_n 2, 1) := by decide +kernel
theorem dX0_sweep_92 : decode cX0_sweep 92 = .ok (.iload_n 2, 1) := by decide +kernel
theorem dX0_sweep_93 : decode cX0_sweep 93 = .ok (.ifCond .lt 23, 3) := by decide +kernel
theorem dX0_sweep_96 : decode cX0_sweep 96 = .ok (.aload_n 0, 1) := by decide +kernel
theorem dX0_sweep_97 : decode cX0_sweep 97 = .ok (.getfield 40, 3) := by decide +kernel
theorem dX0_sweep_100 : decode cX0_sweep 100 = .ok (.iload_n 2, 1) := by decide +kernel
theorem dX0_sweep_101 : decode cX0_sweep 101 = .ok (.baload, 1) := by decide +kernel
theorem dX0_sweep_102 : decode cX0_sweep 102 = .ok (.ifCond .eq 8, 3) := by decide +kernel
theorem dX0_sweep_105 : decode cX0_sweep 105 = .ok (.aload_n 0, 1) := by decide +kernel
theorem dX0_sweep_106 : decode cX0_sweep 106 = .ok (.iload_n 2, 1) := by decide +kernel
theorem dX0_sweep_107 : decode cX0_sweep 107 = .ok (.invokevirtual 99, 3) := by decide +kernel
theorem dX0_sweep_110 : decode cX0_sweep 110 = .ok (.iinc 2 (-1), 3) := by decide +kernel
theorem dX0_sweep_113 : decode cX0_sweep 113 = .ok (.goto (-21), 3) := by decide +kernel
theorem dX0_sweep_116 : decode cX0_sweep 116 = .ok (.return_, 1) := by decide +kernel
abbrev cX0_handOn : ByteArray := prog_1_method_34_code
def yX0_handOn : MethodName := ⟨RX0, "handOn", "(I)V"⟩
theorem dX0_handOn_0 : decode cX0_handOn 0 = .ok (.aload_n 0, 1) := by decide +kernel
theorem dX0_handOn_1 : decode cX0_handOn 1 = .ok (.getfield 7, 3) := by decide +kernel
theorem dX0_handOn_4 : decode cX0_handOn 4 = .ok (.iload_n 1, 1) := by decide +kernel
theorem dX0_handOn_5 : decode cX0_handOn 5 = .ok (.iaload, 1) := by decide +kernel
theorem dX0_handOn_6 : decode cX0_handOn 6 = .ok (.istore_n 2, 1) := by decide +kernel
theorem dX0_handOn_7 : decode cX0_handOn 7 = .ok (.aload_n 0, 1) := by decide +kernel
theorem dX0_handOn_8 : decode cX0_handOn 8 = .ok (.getfield 34, 3) := by decide +kernel
theorem dX0_handOn_11 : decode cX0_handOn 11 = .ok (.iload_n 1, 1) := by decide +kernel
theorem dX0_handOn_12 : decode cX0_handOn 12 = .ok (.iaload, 1) := by decide +kernel
theorem dX0_handOn_13 : decode cX0_handOn 13 = .ok (.istore_n 3, 1) := by decide +kernel
theorem dX0_handOn_14 : decode cX0_handOn 14 = .ok (.aload_n 0, 1) := by decide +kernel
theorem dX0_handOn_15 : decode cX0_handOn 15 = .ok (.getfield 13, 3) := by decide +kernel
theorem dX0_handOn_18 : decode cX0_handOn 18 = .ok (.iload_n 1, 1) := by decide +kernel
theorem dX0_handOn_19 : decode cX0_handOn 19 = .ok (.iaload, 1) := by decide +kernel
theorem dX0_handOn_20 : decode cX0_handOn 20 = .ok (.istore 4, 2) := by decide +kernel
theorem dX0_handOn_22 : decode cX0_handOn 22 = .ok (.aload_n 0, 1) := by decide +kernel
theorem dX0_handOn_23 : decode cX0_handOn 23 = .ok (.getfield 16, 3) := by decide +kernel
theorem dX0_handOn_26 : decode cX0_handOn 26 = .ok (.iload_n 1, 1) := by decide +kernel
theorem dX0_handOn_27 : decode cX0_handOn 27 = .ok (.iaload, 1) := by decide +kernel
theorem dX0_handOn_28 : decode cX0_handOn 28 = .ok (.istore 5, 2) := by decide +kernel
theorem dX0_handOn_30 : decode cX0_handOn 30 = .ok (.iload_n 2, 1) := by decide +kernel
theorem dX0_handOn_31 : decode cX0_handOn 31 = .ok (.ifCond .ne 17, 3) := by decide +kernel
theorem dX0_handOn_34 : decode cX0_handOn 34 = .ok (.aload_n 0, 1) := by decide +kernel
theorem dX0_handOn_35 : decode cX0_handOn 35 = .ok (.getfield 44, 3) := by decide +kernel
theorem dX0_handOn_38 : decode cX0_handOn 38 = .ok (.iload 4, 2) := by decide +kernel
theorem dX0_handOn_40 : decode cX0_handOn 40 = .ok (.dup2, 1) := by decide +kernel
theorem dX0_handOn_41 : decode cX0_handOn 41 = .ok (.iaload, 1) := by decide +kernel
theorem dX0_handOn_42 : decode cX0_handOn 42 = .ok (.iload_n 3, 1) := by decide +kernel
theorem dX0_handOn_43 : decode cX0_handOn 43 = .ok (.iadd, 1) := by decide +kernel
theorem dX0_handOn_44 : decode cX0_handOn 44 = .ok (.iastore, 1) := by decide +kernel
theorem dX0_handOn_45 : decode cX0_handOn 45 = .ok (.goto 111, 3) := by decide +kernel
theorem dX0_handOn_48 : decode cX0_handOn 48 = .ok (.iload_n 2, 1) := by decide +kernel
theorem dX0_handOn_49 : decode cX0_handOn 49 = .ok (.iconst 2, 1) := by decide +kernel
theorem dX0_handOn_50 : decode cX0_handOn 50 = .ok (.if_icmp .ne 28, 3) := by decide +kernel
theorem dX0_handOn_53 : decode cX0_handOn 53 = .ok (.aload_n 0, 1) := by decide +kernel
theorem dX0_handOn_54 : decode cX0_handOn 54 = .ok (.getfield 34, 3) := by decide +kernel
theorem dX0_handOn_57 : decode cX0_handOn 57 = .ok (.iload 4, 2) := by decide +kernel
theorem dX0_handOn_59 : decode cX0_handOn 59 = .ok (.dup2, 1) := by decide +kernel
theorem dX0_handOn_60 : decode cX0_handOn 60 = .ok (.iaload, 1) := by decide +kernel
theorem dX0_handOn_61 : decode cX0_handOn 61 = .ok (.iload_n 3, 1) := by decide +kernel
theorem dX0_handOn_62 : decode cX0_handOn 62 = .ok (.iadd, 1) := by decide +kernel
theorem dX0_handOn_63 : decode cX0_handOn 63 = .ok (.iastore, 1) := by decide +kernel
theorem dX0_handOn_64 : decode cX0_handOn 64 = .ok (.aload_n 0, 1) := by decide +kernel
theorem dX0_handOn_65 : decode cX0_handOn 65 = .ok (.getfield 34, 3) := by decide +kernel
theorem dX0_handOn_68 : decode cX0_handOn 68 = .ok (.iload 5, 2) := by decide +kernel
theorem dX0_handOn_70 : decode cX0_handOn 70 = .ok (.dup2, 1) := by decide +kernel
theorem dX0_handOn_71 : decode cX0_handOn 71 = .ok (.iaload, 1) := by decide +kernel
theorem dX0_handOn_72 : decode cX0_handOn 72 = .ok (.iload_n 3, 1) := by decide +kernel
theorem dX0_handOn_73 : decode cX0_handOn 73 = .ok (.iadd, 1) := by decide +kernel
theorem dX0_handOn_74 : decode cX0_handOn 74 = .ok (.iastore, 1) := by decide +kernel
theorem dX0_handOn_75 : decode cX0_handOn 75 = .ok (.goto 81, 3) := by decide +kernel
theorem dX0_handOn_78 : decode cX0_handOn 78 = .ok (.iload_n 2, 1) := by decide +kernel
theorem dX0_handOn_79 : decode cX0_handOn 79 = .ok (.iconst 3, 1) := by decide +kernel
theorem dX0_handOn_80 : decode cX0_handOn 80 = .ok (.if_icmp .ne 28, 3) := by decide +kernel
theorem dX0_handOn_83 : decode cX0_handOn 83 = .ok (.aload_n 0, 1) := by decide +kernel
theorem dX0_handOn_84 : decode cX0_handOn 84 = .ok (.getfield 34, 3) := by decide +kernel
theorem dX0_handOn_87 : decode cX0_handOn 87 = .ok (.iload 4, 2) := by decide +kernel
theorem dX0_handOn_89 : decode cX0_handOn 89 = .ok (.dup2, 1) := by decide +kernel
theorem dX0_handOn_90 : decode cX0_handOn 90 = .ok (.iaload, 1) := by decide +kernel
theorem dX0_handOn_91 : decode cX0_handOn 91 = .ok (.iload_n 3, 1) := by decide +kernel
theorem dX0_handOn_92 : decode cX0_handOn 92 = .ok (.iadd, 1) := by decide +kernel
theorem dX0_handOn_93 : decode cX0_handOn 93 = .ok (.iastore, 1) := by decide +kernel
theorem dX0_handOn_94 : decode cX0_handOn 94 = .ok (.aload_n 0, 1) := by decide +kernel
theorem dX0_handOn_95 : decode cX0_handOn 95 = .ok (.getfield 34, 3) := by decide +kernel
theorem dX0_handOn_98 : decode cX0_handOn 98 = .ok (.iload 5, 2) := by decide +kernel
theorem dX0_handOn_100 : decode cX0_handOn 100 = .ok (.dup2, 1) := by decide +kernel
theorem dX0_handOn_101 : decode cX0_handOn 101 = .ok (.iaload, 1) := by decide +kernel
theorem dX0_handOn_102 : decode cX0_handOn 102 = .ok (.iload_n 3, 1) := by decide +kernel
theorem dX0_handOn_103 : decode cX0_handOn 103 = .ok (.isub, 1) := by decide +kernel
theorem dX0_handOn_104 : decode cX0_handOn 104 = .ok (.iastore, 1) := by decide +kernel
theorem dX0_handOn_105 : decode cX0_handOn 105 = .ok (.goto 51, 3) := by decide +kernel
theorem dX0_handOn_108 : decode cX0_handOn 108 = .ok (.iload_n 2, 1) := by decide +kernel
theorem dX0_handOn_109 : decode cX0_handOn 109 = .ok (.iconst 4, 1) := by decide +kernel
theorem dX0_handOn_110 : decode cX0_handOn 110 = .ok (.if_icmp .eq 8, 3) := by decide +kernel
theorem dX0_handOn_113 : decode cX0_handOn 113 = .ok (.iload_n 2, 1) := by decide +kernel
theorem dX0_handOn_114 : decode cX0_handOn 114 = .ok (.iconst 5, 1) := by decide +kernel
theorem dX0_handOn_115 : decode cX0_handOn 115 = .ok (.if_icmp .ne 41, 3) := by decide +kernel
theorem dX0_handOn_118 : decode cX0_handOn 118 = .ok (.aload_n 0, 1) := by decide +kernel
theorem dX0_handOn_119 : decode cX0_handOn 119 = .ok (.getfield 34, 3) := by decide +kernel
theorem dX0_handOn_122 : decode cX0_handOn 122 = .ok (.iload 4, 2) := by decide +kernel
theorem dX0_handOn_124 : decode cX0_handOn 124 = .ok (.dup2, 1) := by decide +kernel
theorem dX0_handOn_125 : decode cX0_handOn 125 = .ok (.iaload, 1) := by decide +kernel
theorem dX0_handOn_126 : decode cX0_handOn 126 = .ok (.iload_n 3, 1) := by decide +kernel
theorem dX0_handOn_127 : decode cX0_handOn 127 = .ok (.aload_n 0, 1) := by decide +kernel
theorem dX0_handOn_128 : decode cX0_handOn 128 = .ok (.getfield 31, 3) := by decide +kernel
theorem dX0_handOn_131 : decode cX0_handOn 131 = .ok (.iload 5, 2) := by decide +kernel
theorem dX0_handOn_133 : decode cX0_handOn 133 = .ok (.iaload, 1) := by decide +kernel
theorem dX0_handOn_134 : decode cX0_handOn 134 = .ok (.imul, 1) := by decide +kernel
theorem dX0_handOn_135 : decode cX0_handOn 135 = .ok (.iadd, 1) := by decide +kernel
theorem dX0_handOn_136 : decode cX0_handOn 136 = .ok (.iastore, 1) := by decide +kernel
theorem dX0_handOn_137 : decode cX0_handOn 137 = .ok (.aload_n 0, 1) := by decide +kernel
theorem dX0_handOn_138 : decode cX0_handOn 138 = .ok (.getfield 34, 3) := by decide +kernel
theorem dX0_handOn_141 : decode cX0_handOn 141 = .ok (.iload 5, 2) := by decide +kernel
theorem dX0_handOn_143 : decode cX0_handOn 143 = .ok (.dup2, 1) := by decide +kernel
theorem dX0_handOn_144 : decode cX0_handOn 144 = .ok (.iaload, 1) := by decide +kernel
theorem dX0_handOn_145 : decode cX0_handOn 145 = .ok (.iload_n 3, 1) := by decide +kernel
theorem dX0_handOn_146 : decode cX0_handOn 146 = .ok (.aload_n 0, 1) := by decide +kernel
theorem dX0_handOn_147 : decode cX0_handOn 147 = .ok (.getfield 31, 3) := by decide +kernel
theorem dX0_handOn_150 : decode cX0_handOn 150 = .ok (.iload 4, 2) := by decide +kernel
theorem dX0_handOn_152 : decode cX0_handOn 152 = .ok (.iaload, 1) := by decide +kernel
theorem dX0_handOn_153 : decode cX0_handOn 153 = .ok (.imul, 1) := by decide +kernel
theorem dX0_handOn_154 : decode cX0_handOn 154 = .ok (.iadd, 1) := by decide +kernel
theorem dX0_handOn_155 : decode cX0_handOn 155 = .ok (.iastore, 1) := by decide +kernel
theorem dX0_handOn_156 : decode cX0_handOn 156 = .ok (.return_, 1) := by decide +kernel
end
section
set_option maxRecDepth 100000
abbrev cX0_drift : ByteArray := prog_1_method_18_code
def yX0_drift : MethodName := ⟨RX0, "drift", "(I)I"⟩
theorem dX0_drift_0 : decode cX0_drift 0 = .ok (.iload_n 1, 1) := by decide +kernel
theorem dX0_drift_1 : decode cX0_drift 1 = .ok (.invokestatic 69, 3) := by decide +kernel
theorem dX0_drift_4 : decode cX0_drift 4 = .ok (.ifCond .ne 5, 3) := by decide +kernel
theorem dX0_drift_7 : decode cX0_drift 7 = .ok (.iconst 0, 1) := by decide +kernel
theorem dX0_drift_8 : decode cX0_drift 8 = .ok (.ireturn, 1) := by decide +kernel
theorem dX0_drift_9 : decode cX0_drift 9 = .ok (.iconst 4, 1) := by decide +kernel
theorem dX0_drift_10 : decode cX0_drift 10 = .ok (.iload_n 1, 1) := by decide +kernel
theorem dX0_drift_11 : decode cX0_drift 11 = .ok (.imul, 1) := by decide +kernel
theorem dX0_drift_12 : decode cX0_drift 12 = .ok (.istore_n 2, 1) := by decide +kernel
theorem dX0_drift_13 : decode cX0_drift 13 = .ok (.aload_n 0, 1) := by decide +kernel
theorem dX0_drift_14 : decode cX0_drift 14 = .ok (.iload_n 2, 1) := by decide +kernel
theorem dX0_drift_15 : decode cX0_drift 15 = .ok (.invokevirtual 79, 3) := by decide +kernel
theorem dX0_drift_18 : decode cX0_drift 18 = .ok (.pop, 1) := by decide +kernel
theorem dX0_drift_19 : decode cX0_drift 19 = .ok (.iconst 0, 1) := by decide +kernel
theorem dX0_drift_20 : decode cX0_drift 20 = .ok (.istore_n 3, 1) := by decide +kernel
theorem dX0_drift_21 : decode cX0_drift 21 = .ok (.iload_n 3, 1) := by decide +kernel
theorem dX0_drift_22 : decode cX0_drift 22 = .ok (.aload_n 0, 1) := by decide +kernel
theorem dX0_drift_23 : decode cX0_drift 23 = .ok (.getfield 59, 3) := by decide +kernel
theorem dX0_drift_26 : decode cX0_drift 26 = .ok (.if_icmp .ge 30, 3) := by decide +kernel
theorem dX0_drift_29 : decode cX0_drift 29 = .ok (.aload_n 0, 1) := by decide +kernel
theorem dX0_drift_30 : decode cX0_drift 30 = .ok (.getfield 40, 3) := by decide +kernel
theorem dX0_drift_33 : decode cX0_drift 33 = .ok (.iload_n 3, 1) := by decide +kernel
theorem dX0_drift_34 : decode cX0_drift 34 = .ok (.baload, 1) := by decide +kernel
theorem dX0_drift_35 : decode cX0_drift 35 = .ok (.ifCond .eq 15, 3) := by decide +kernel
theorem dX0_drift_38 : decode cX0_drift 38 = .ok (.aload_n 0, 1) := by decide +kernel
theorem dX0_drift_39 : decode cX0_drift 39 = .ok (.getfield 37, 3) := by decide +kernel
theorem dX0_drift_42 : decode cX0_drift 42 = .ok (.iload_n 3, 1) := by decide +kernel
theorem dX0_drift_43 : decode cX0_drift 43 = .ok (.aload_n 0, 1) := by decide +kernel
theorem dX0_drift_44 : decode cX0_drift 44 = .ok (.iload_n 3, 1) := by decide +kernel
theorem dX0_drift_45 : decode cX0_drift 45 = .ok (.iload_n 2, 1) := by decide +kernel
theorem dX0_drift_46 : decode cX0_drift 46 = .ok (.invokevirtual 87, 3) := by decide +kernel
theorem dX0_drift_49 : decode cX0_drift 49 = .ok (.iastore, 1) := by decide +kernel
theorem dX0_drift_50 : decode cX0_drift 50 = .ok (.iinc 3 1, 3) := by decide +kernel
theorem dX0_drift_53 : decode cX0_drift 53 = .ok (.goto (-32), 3) := by decide +kernel
theorem dX0_drift_56 : decode cX0_drift 56 = .ok (.iconst 0, 1) := by decide +kernel
theorem dX0_drift_57 : decode cX0_drift 57 = .ok (.istore_n 3, 1) := by decide +kernel
theorem dX0_drift_58 : decode cX0_drift 58 = .ok (.iconst 0, 1) := by decide +kernel
theorem dX0_drift_59 : decode cX0_drift 59 = .ok (.istore 4, 2) := by decide +kernel
theorem dX0_drift_61 : decode cX0_drift 61 = .ok (.iload 4, 2) := by decide +kernel
theorem dX0_drift_63 : decode cX0_drift 63 = .ok (.aload_n 0, 1) := by decide +kernel
theorem dX0_drift_64 : decode cX0_drift 64 = .ok (.getfield 66, 3) := by decide +kernel
theorem dX0_drift_67 : decode cX0_drift 67 = .ok (.if_icmp .ge 32, 3) := by decide +kernel
theorem dX0_drift_70 : decode cX0_drift 70 = .ok (.iload_n 3, 1) := by decide +kernel
theorem dX0_drift_71 : decode cX0_drift 71 = .ok (.aload_n 0, 1) := by decide +kernel
theorem dX0_drift_72 : decode cX0_drift 72 = .ok (.getfield 22, 3) := by decide +kernel
theorem dX0_drift_75 : decode cX0_drift 75 = .ok (.iload 4, 2) := by decide +kernel
theorem dX0_drift_77 : decode cX0_drift 77 = .ok (.iaload, 1) := by decide +kernel
theorem dX0_drift_78 : decode cX0_drift 78 = .ok (.aload_n 0, 1) := by decide +kernel
theorem dX0_drift_79 : decode cX0_drift 79 = .ok (.getfield 37, 3) := by decide +kernel
theorem dX0_drift_82 : decode cX0_drift 82 = .ok (.aload_n 0, 1) := by decide +kernel
theorem dX0_drift_83 : decode cX0_drift 83 = .ok (.getfield 19, 3) := by decide +kernel
theorem dX0_drift_86 : decode cX0_drift 86 = .ok (.iload 4, 2) := by decide +kernel
theorem dX0_drift_88 : decode cX0_drift 88 = .ok (.iaload, 1) := by decide +kernel
theorem dX0_drift_89 : decode cX0_drift 89 = .ok (.iaload, 1) := by decide +kernel
theorem dX0_drift_90 : decode cX0_drift 90 = .ok (.imul, 1) := by decide +kernel
theorem dX0_drift_91 : decode cX0_drift 91 = .ok (.iadd, 1) := by decide +kernel
theorem dX0_drift_92 : decode cX0_drift 92 = .ok (.istore_n 3, 1) := by decide +kernel
theorem dX0_drift_93 : decode cX0_drift 93 = .ok (.iinc 4 1, 3) := by decide +kernel
theorem dX0_drift_96 : decode cX0_drift 96 = .ok (.goto (-35), 3) := by decide +kernel
theorem dX0_drift_99 : decode cX0_drift 99 = .ok (.iload_n 3, 1) := by decide +kernel
theorem dX0_drift_100 : decode cX0_drift 100 = .ok (.ireturn, 1) := by decide +kernel
abbrev cX0_changed : ByteArray := prog_1_method_31_code
def yX0_changed : MethodName := ⟨RX0, "changed", "(II)I"⟩
theorem dX0_changed_0 : decode cX0_changed 0 = .ok (.aload_n 0, 1) := by decide +kernel
theorem dX0_changed_1 : decode cX0_changed 1 = .ok (.getfield 7, 3) := by decide +kernel
theorem dX0_changed_4 : decode cX0_changed 4 = .ok (.iload_n 1, 1) := by decide +kernel
theorem dX0_changed_5 : decode cX0_changed 5 = .ok (.iaload, 1) := by decide +kernel
theorem dX0_changed_6 : decode cX0_changed 6 = .ok (.istore_n 3, 1) := by decide +kernel
theorem dX0_changed_7 : decode cX0_changed 7 = .ok (.iload_n 3, 1) := by decide +kernel
theorem dX0_changed_8 : decode cX0_changed 8 = .ok (.ifCond .ne 17, 3) := by decide +kernel
theorem dX0_changed_11 : decode cX0_changed 11 = .ok (.aload_n 0, 1) := by decide +kernel
theorem dX0_changed_12 : decode cX0_changed 12 = .ok (.getfield 28, 3) := by decide +kernel
theorem dX0_changed_15 : decode cX0_changed 15 = .ok (.iload_n 2, 1) := by decide +kernel
theorem dX0_changed_16 : decode cX0_changed 16 = .ok (.aload_n 0, 1) := by decide +kernel
theorem dX0_changed_17 : decode cX0_changed 17 = .ok (.getfield 13, 3) := by decide +kernel
theorem dX0_changed_20 : decode cX0_changed 20 = .ok (.iload_n 1, 1) := by decide +kernel
theorem dX0_changed_21 : decode cX0_changed 21 = .ok (.iaload, 1) := by decide +kernel
theorem dX0_changed_22 : decode cX0_changed 22 = .ok (.iadd, 1) := by decide +kernel
theorem dX0_changed_23 : decode cX0_changed 23 = .ok (.iaload, 1) := by decide +kernel
theorem dX0_changed_24 : decode cX0_changed 24 = .ok (.ireturn, 1) := by decide +kernel
theorem dX0_changed_25 : decode cX0_changed 25 = .ok (.iload_n 3, 1) := by decide +kernel
theorem dX0_changed_26 : decode cX0_changed 26 = .ok (.iconst 1, 1) := by decide +kernel
theorem dX0_changed_27 : decode cX0_changed 27 = .ok (.if_icmp .ne 5, 3) := by decide +kernel
theorem dX0_changed_30 : decode cX0_changed 30 = .ok (.iconst 0, 1) := by decide +kernel
theorem dX0_changed_31 : decode cX0_changed 31 = .ok (.ireturn, 1) := by decide +kernel
theorem dX0_changed_32 : decode cX0_changed 32 = .ok (.aload_n 0, 1) := by decide +kernel
theorem dX0_changed_33 : decode cX0_changed 33 = .ok (.getfield 37, 3) := by decide +kernel
theorem dX0_changed_36 : decode cX0_changed 36 = .ok (.aload_n 0, 1) := by decide +kernel
theorem dX0_changed_37 : decode cX0_changed 37 = .ok (.getfield 13, 3) := by decide +kernel
theorem dX0_changed_40 : decode cX0_changed 40 = .ok (.iload_n 1, 1) := by decide +kernel
theorem dX0_changed_41 : decode cX0_changed 41 = .ok (.iaload, 1) := by decide +kernel
theorem dX0_changed_42 : decode cX0_changed 42 = .ok (.iaload, 1) := by decide +kernel
theorem dX0_changed_43 : decode cX0_changed 43 = .ok (.istore 4, 2) := by decide +kernel
theorem dX0_changed_45 : decode cX0_changed 45 = .ok (.aload_n 0, 1) := by decide +kernel
theorem dX0_changed_46 : decode cX0_changed 46 = .ok (.getfield 37, 3) := by decide +kernel
theorem dX0_changed_49 : decode cX0_changed 49 = .ok (.aload_n 0, 1) := by decide +kernel
theorem dX0_changed_50 : decode cX0_changed 50 = .ok (.getfield 16, 3) := by decide +kernel
theorem dX0_changed_53 : decode cX0_changed 53 = .ok (.iload_n 1, 1) := by decide +kernel
theorem dX0_changed_54 : decode cX0_changed 54 = .ok (.iaload, 1) := by decide +kernel
theorem dX0_changed_55 : decode cX0_changed 55 = .ok (.iaload, 1) := by decide +kernel
theorem dX0_changed_56 : decode cX0_changed 56 = .ok (.istore 5, 2) := by decide +kernel
theorem dX0_changed_58 : decode cX0_changed 58 = .ok (.iload_n 3, 1) := by decide +kernel
theorem dX0_changed_59 : decode cX0_changed 59 = .ok (.iconst 2, 1) := by decide +kernel
theorem dX0_changed_60 : decode cX0_changed 60 = .ok (.if_icmp .ne 9, 3) := by decide +kernel
theorem dX0_changed_63 : decode cX0_changed 63 = .ok (.iload 4, 2) := by decide +kernel
theorem dX0_changed_65 : decode cX0_changed 65 = .ok (.iload 5, 2) := by decide +kernel
theorem dX0_changed_67 : decode cX0_changed 67 = .ok (.iadd, 1) := by decide +kernel
theorem dX0_changed_68 : decode cX0_changed 68 = .ok (.ireturn, 1) := by decide +kernel
theorem dX0_changed_69 : decode cX0_changed 69 = .ok (.iload_n 3, 1) := by decide +kernel
theorem dX0_changed_70 : decode cX0_changed 70 = .ok (.iconst 3, 1) := by decide +kernel
theorem dX0_changed_71 : decode cX0_changed 71 = .ok (.if_icmp .ne 11, 3) := by decide +kernel
theorem dX0_changed_74 : decode cX0_changed 74 = .ok (.iload 4, 2) := by decide +kernel
theorem dX0_changed_76 : decode cX0_changed 76 = .ok (.iload 5, 2) := by decide +kernel
theorem dX0_changed_78 : decode cX0_changed 78 = .ok (.isub, 1) := by decide +kernel
theorem dX0_changed_79 : decode cX0_changed 79 = .ok (.goto 32, 3) := by decide +kernel
theorem dX0_changed_82 : decode cX0_changed 82 = .ok (.iload 4, 2) := by decide +kernel
theorem dX0_changed_84 : decode cX0_changed 84 = .ok (.aload_n 0, 1) := by decide +kernel
theorem dX0_changed_85 : decode cX0_changed 85 = .ok (.getfield 31, 3) := by decide +kernel
theorem dX0_changed_88 : decode cX0_changed 88 = .ok (.aload_n 0, 1) := by decide +kernel
theorem dX0_changed_89 : decode cX0_changed 89 = .ok (.getfield 16, 3) := by decide +kernel
theorem dX0_changed_92 : decode cX0_changed 92 = .ok (.iload_n 1, 1) := by decide +kernel
theorem dX0_changed_93 : decode cX0_changed 93 = .ok (.iaload, 1) := by decide +kernel
theorem dX0_changed_94 : decode cX0_changed 94 = .ok (.iaload, 1) := by decide +kernel
theorem dX0_changed_95 : decode cX0_changed 95 = .ok (.imul, 1) := by decide +kernel
theorem dX0_changed_96 : decode cX0_changed 96 = .ok (.aload_n 0, 1) := by decide +kernel
theorem dX0_changed_97 : decode cX0_changed 97 = .ok (.getfield 31, 3) := by decide +kernel
theorem dX0_changed_100 : decode cX0_changed 100 = .ok (.aload_n 0, 1) := by decide +kernel
theorem dX0_changed_101 : decode cX0_changed 101 = .ok (.getfield 13, 3) := by decide +kernel
theorem dX0_changed_104 : decode cX0_changed 104 = .ok (.iload_n 1, 1) := by decide +kernel
theorem dX0_changed_105 : decode cX0_changed 105 = .ok (.iaload, 1) := by decide +kernel
theorem dX0_changed_106 : decode cX0_changed 106 = .ok (.iaload, 1) := by decide +kernel
theorem dX0_changed_107 : decode cX0_changed 107 = .ok (.iload 5, 2) := by decide +kernel
theorem dX0_changed_109 : decode cX0_changed 109 = .ok (.imul, 1) := by decide +kernel
theorem dX0_changed_110 : decode cX0_changed 110 = .ok (.iadd, 1) := by decide +kernel
theorem dX0_changed_111 : decode cX0_changed 111 = .ok (.ireturn, 1) := by decide +kernel
abbrev cX0_targetAt : ByteArray := prog_1_method_19_code
def yX0_targetAt : MethodName := ⟨RX0, "targetAt", "(III)I"⟩
theorem dX0_targetAt_0 : decode cX0_targetAt 0 = .ok (.iload_n 1, 1) := by decide +kernel
theorem dX0_targetAt_1 : decode cX0_targetAt 1 = .ok (.invokestatic 69, 3) := by decide +kernel
theorem dX0_targetAt_4 : decode cX0_targetAt 4 = .ok (.ifCond .eq 10, 3) := by decide +kernel
theorem dX0_targetAt_7 : decode cX0_targetAt 7 = .ok (.iload_n 2, 1) := by decide +kernel
theorem dX0_targetAt_8 : decode cX0_targetAt 8 = .ok (.invokestatic 51, 3) := by decide +kernel
theorem dX0_targetAt_11 : decode cX0_targetAt 11 = .ok (.ifCond .ne 5, 3) := by decide +kernel
theorem dX0_targetAt_14 : decode cX0_targetAt 14 = .ok (.iconst 0, 1) := by decide +kernel
theorem dX0_targetAt_15 : decode cX0_targetAt 15 = .ok (.ireturn, 1) := by decide +kernel
theorem dX0_targetAt_16 : decode cX0_targetAt 16 = .ok (.iconst 4, 1) := by decide +kernel
theorem dX0_targetAt_17 : decode cX0_targetAt 17 = .ok (.iload_n 1, 1) := by decide +kernel
theorem dX0_targetAt_18 : decode cX0_targetAt 18 = .ok (.imul, 1) := by decide +kernel
theorem dX0_targetAt_19 : decode cX0_targetAt 19 = .ok (.iload_n 2, 1) := by decide +kernel
theorem dX0_targetAt_20 : decode cX0_targetAt 20 = .ok (.iadd, 1) := by decide +kernel
theorem dX0_targetAt_21 : decode cX0_targetAt 21 = .ok (.istore 4, 2) := by decide +kernel
theorem dX0_targetAt_23 : decode cX0_targetAt 23 = .ok (.aload_n 0, 1) := by decide +kernel
theorem dX0_targetAt_24 : decode cX0_targetAt 24 = .ok (.getfield 25, 3) := by decide +kernel
theorem dX0_targetAt_27 : decode cX0_targetAt 27 = .ok (.iload 4, 2) := by decide +kernel
theorem dX0_targetAt_29 : decode cX0_targetAt 29 = .ok (.iaload, 1) := by decide +kernel
theorem dX0_targetAt_30 : decode cX0_targetAt 30 = .ok (.istore 5, 2) := by decide +kernel
theorem dX0_targetAt_32 : decode cX0_targetAt 32 = .ok (.aload_n 0, 1) := by decide +kernel
theorem dX0_targetAt_33 : decode cX0_targetAt 33 = .ok (.getfield 25, 3) := by decide +kernel
theorem dX0_targetAt_36 : decode cX0_targetAt 36 = .ok (.iload 4, 2) := by decide +kernel
theorem dX0_targetAt_38 : decode cX0_targetAt 38 = .ok (.iload_n 3, 1) := by decide +kernel
theorem dX0_targetAt_39 : decode cX0_targetAt 39 = .ok (.iastore, 1) := by decide +kernel
theorem dX0_targetAt_40 : decode cX0_targetAt 40 = .ok (.aload_n 0, 1) := by decide +kernel
theorem dX0_targetAt_41 : decode cX0_targetAt 41 = .ok (.iconst 4, 1) := by decide +kernel
theorem dX0_targetAt_42 : decode cX0_targetAt 42 = .ok (.iload_n 1, 1) := by decide +kernel
theorem dX0_targetAt_43 : decode cX0_targetAt 43 = .ok (.imul, 1) := by decide +kernel
theorem dX0_targetAt_44 : decode cX0_targetAt 44 = .ok (.invokevirtual 79, 3) := by decide +kernel
theorem dX0_targetAt_47 : decode cX0_targetAt 47 = .ok (.istore 6, 2) := by decide +kernel
theorem dX0_targetAt_49 : decode cX0_targetAt 49 = .ok (.aload_n 0, 1) := by decide +kernel
theorem dX0_targetAt_50 : decode cX0_targetAt 50 = .ok (.getfield 25, 3) := by decide +kernel
theorem dX0_targetAt_53 : decode cX0_targetAt 53 = .ok (.iload 4, 2) := by decide +kernel
theorem dX0_targetAt_55 : decode cX0_targetAt 55 = .ok (.iload 5, 2) := by decide +kernel
theorem dX0_targetAt_57 : decode cX0_targetAt 57 = .ok (.iastore, 1) := by decide +kernel
theorem dX0_targetAt_58 : decode cX0_targetAt 58 = .ok (.iload 6, 2) := by decide +kernel
theorem dX0_targetAt_60 : decode cX0_targetAt 60 = .ok (.ireturn, 1) := by decide +kernel
abbrev cX0_leap : ByteArray := prog_1_method_20_code
def yX0_leap : MethodName := ⟨RX0, "leap", "(II)I"⟩
theorem dX0_leap_0 : decode cX0_leap 0 = .ok (.iload_n 1, 1) := by decide +kernel
theorem dX0_leap_1 : decode cX0_leap 1 = .ok (.invokestatic 69, 3) := by decide +kernel
theorem dX0_leap_4 : decode cX0_leap 4 = .ok (.ifCond .ne 5, 3) := by decide +kernel
theorem dX0_leap_7 : decode cX0_leap 7 = .ok (.iconst (-1), 1) := by decide +kernel
theorem dX0_leap_8 : decode cX0_leap 8 = .ok (.ireturn, 1) := by decide +kernel
theorem dX0_leap_9 : decode cX0_leap 9 = .ok (.iload_n 2, 1) := by decide +kernel
theorem dX0_leap_10 : decode cX0_leap 10 = .ok (.ifCond .lt 9, 3) := by decide +kernel
theorem dX0_leap_13 : decode cX0_leap 13 = .ok (.iload_n 2, 1) := by decide +kernel
theorem dX0_leap_14 : decode cX0_leap 14 = .ok (.bipush 40, 2) := by decide +kernel
theorem dX0_leap_16 : decode cX0_leap 16 = .ok (.if_icmp .le 6, 3) := by decide +kernel
theorem dX0_leap_19 : decode cX0_leap 19 = .ok (.bipush (-2), 2) := by decide +kernel
theorem dX0_leap_21 : decode cX0_leap 21 = .ok (.ireturn, 1) := by decide +kernel
theorem dX0_leap_22 : decode cX0_leap 22 = .ok (.iconst 4, 1) := by decide +kernel
theorem dX0_leap_23 : decode cX0_leap 23 = .ok (.iload_n 1, 1) := by decide +kernel
theorem dX0_leap_24 : decode cX0_leap 24 = .ok (.imul, 1) := by decide +kernel
theorem dX0_leap_25 : decode cX0_leap 25 = .ok (.istore_n 3, 1) := by decide +kernel
theorem dX0_leap_26 : decode cX0_leap 26 = .ok (.aload_n 0, 1) := by decide +kernel
theorem dX0_leap_27 : decode cX0_leap 27 = .ok (.iload_n 3, 1) := by decide +kernel
theorem dX0_leap_28 : decode cX0_leap 28 = .ok (.invokevirtual 83, 3) := by decide +kernel
theorem dX0_leap_31 : decode cX0_leap 31 = .ok (.iconst 0, 1) := by decide +kernel
theorem dX0_leap_32 : decode cX0_leap 32 = .ok (.istore 4, 2) := by decide +kernel
theorem dX0_leap_34 : decode cX0_leap 34 = .ok (.iload 4, 2) := by decide +kernel
theorem dX0_leap_36 : decode cX0_leap 36 = .ok (.iload_n 2, 1) := by decide +kernel
theorem dX0_leap_37 : decode cX0_leap 37 = .ok (.if_icmp .ge 60, 3) := by decide +kernel
theorem dX0_leap_40 : decode cX0_leap 40 = .ok (.aload_n 0, 1) := by decide +kernel
theorem dX0_leap_41 : decode cX0_leap 41 = .ok (.iload_n 3, 1) := by decide +kernel
theorem dX0_leap_42 : decode cX0_leap 42 = .ok (.invokevirtual 90, 3) := by decide +kernel
theorem dX0_leap_45 : decode cX0_leap 45 = .ok (.iconst 0, 1) := by decide +kernel
theorem dX0_leap_46 : decode cX0_leap 46 = .ok (.istore 5, 2) := by decide +kernel
theorem dX0_leap_48 : decode cX0_leap 48 = .ok (.iload 5, 2) := by decide +kernel
theorem dX0_leap_50 : decode cX0_leap 50 = .ok (.iconst 4, 1) := by decide +kernel
theorem dX0_leap_51 : decode cX0_leap 51 = .ok (.if_icmp .ge 30, 3) := by decide +kernel
theorem dX0_leap_54 : decode cX0_leap 54 = .ok (.aload_n 0, 1) := by decide +kernel
theorem dX0_leap_55 : decode cX0_leap 55 = .ok (.getfield 25, 3) := by decide +kernel
theorem dX0_leap_58 : decode cX0_leap 58 = .ok (.iload_n 3, 1) := by decide +kernel
theorem dX0_leap_59 : decode cX0_leap 59 = .ok (.iload 5, 2) := by decide +kernel
theorem dX0_leap_61 : decode cX0_leap 61 = .ok (.iadd, 1) := by decide +kernel
theorem dX0_leap_62 : decode cX0_leap 62 = .ok (.dup2, 1) := by decide +kernel
theorem dX0_leap_63 : decode cX0_leap 63 = .ok (.iaload, 1) := by decide +kernel
theorem dX0_leap_64 : decode cX0_leap 64 = .ok (.aload_n 0, 1) := by decide +kernel
theorem dX0_leap_65 : decode cX0_leap 65 = .ok (.getfield 28, 3) := by decide +kernel
theorem dX0_leap_68 : decode cX0_leap 68 = .ok (.iload_n 3, 1) := by decide +kernel
theorem dX0_leap_69 : decode cX0_leap 69 = .ok (.iload 5, 2) := by decide +kernel
theorem dX0_leap_71 : decode cX0_leap 71 = .ok (.iadd, 1) := by decide +kernel
theorem dX0_leap_72 : decode cX0_leap 72 = .ok (.iaload, 1) := by decide +kernel
theorem dX0_leap_73 : decode cX0_leap 73 = .ok (.iadd, 1) := by decide +kernel
theorem dX0_leap_74 : decode cX0_leap 74 = .ok (.iastore, 1) := by decide +kernel
theorem dX0_leap_75 : decode cX0_leap 75 = .ok (.iinc 5 1, 3) := by decide +kernel
theorem dX0_leap_78 : decode cX0_leap 78 = .ok (.goto (-30), 3) := by decide +kernel
theorem dX0_leap_81 : decode cX0_leap 81 = .ok (.aload_n 0, 1) := by decide +kernel
theorem dX0_leap_82 : decode cX0_leap 82 = .ok (.iload_n 3, 1) := by decide +kernel
theorem dX0_leap_83 : decode cX0_leap 83 = .ok (.invokevirtual 83, 3) := by decide +kernel
theorem dX0_leap_86 : decode cX0_leap 86 = .ok (.aload_n 0, 1) := by decide +kernel
theorem dX0_leap_87 : decode cX0_leap 87 = .ok (.iload_n 3, 1) := by decide +kernel
theorem dX0_leap_88 : decode cX0_leap 88 = .ok (.invokevirtual 90, 3) := by decide +kernel
theorem dX0_leap_91 : decode cX0_leap 91 = .ok (.iinc 4 1, 3) := by decide +kernel
theorem dX0_leap_94 : decode cX0_leap 94 = .ok (.goto (-60), 3) := by decide +kernel
theorem dX0_leap_97 : decode cX0_leap 97 = .ok (.aload_n 0, 1) := by decide +kernel
theorem dX0_leap_98 : decode cX0_leap 98 = .ok (.iload_n 3, 1) := by decide +kernel
theorem dX0_leap_99 : decode cX0_leap 99 = .ok (.invokevirtual 79, 3) := by decide +kernel
theorem dX0_leap_102 : decode cX0_leap 102 = .ok (.istore 4, 2) := by decide +kernel
theorem dX0_leap_104 : decode cX0_leap 104 = .ok (.iload 4, 2) := by decide +kernel
theorem dX0_leap_106 : decode cX0_leap 106 = .ok (.sipush 255, 3) := by decide +kernel
theorem dX0_leap_109 : decode cX0_leap 109 = .ok (.iand, 1) := by decide +kernel
theorem dX0_leap_110 : decode cX0_leap 110 = .ok (.ireturn, 1) := by decide +kernel
abbrev cX0_kick : ByteArray := prog_1_method_35_code
def yX0_kick : MethodName := ⟨RX0, "kick", "(I)V"⟩
theorem dX0_kick_0 : decode cX0_kick 0 = .ok (.iconst 0, 1) := by decide +kernel
theorem dX0_kick_1 : decode cX0_kick 1 = .ok (.istore_n 2, 1) := by decide +kernel
theorem dX0_kick_2 : decode cX0_kick 2 = .ok (.iload_n 2, 1) := by decide +kernel
theorem dX0_kick_3 : decode cX0_kick 3 = .ok (.iconst 4, 1) := by decide +kernel
theorem dX0_kick_4 : decode cX0_kick 4 = .ok (.if_icmp .ge 31, 3) := by decide +kernel
theorem dX0_kick_7 : decode cX0_kick 7 = .ok (.aload_n 0, 1) := by decide +kernel
theorem dX0_kick_8 : decode cX0_kick 8 = .ok (.getfield 28, 3) := by decide +kernel
theorem dX0_kick_11 : decode cX0_kick 11 = .ok (.iload_n 1, 1) := by decide +kernel
theorem dX0_kick_12 : decode cX0_kick 12 = .ok (.iload_n 2, 1) := by decide +kernel
theorem dX0_kick_13 : decode cX0_kick 13 = .ok (.iadd, 1) := by decide +kernel
theorem dX0_kick_14 : decode cX0_kick 14 = .ok (.dup2, 1) := by decide +kernel
theorem dX0_kick_15 : decode cX0_kick 15 = .ok (.iaload, 1) := by decide +kernel
theorem dX0_kick_16 : decode cX0_kick 16 = .ok (.aload_n 0, 1) := by decide +kernel
theorem dX0_kick_17 : decode cX0_kick 17 = .ok (.getfield 44, 3) := by decide +kernel
theorem dX0_kick_20 : decode cX0_kick 20 = .ok (.iload_n 2, 1) := by decide +kernel
theorem dX0_kick_21 : decode cX0_kick 21 = .ok (.iaload, 1) := by decide +kernel
theorem dX0_kick_22 : decode cX0_kick 22 = .ok (.aload_n 0, 1) := by decide +kernel
theorem dX0_kick_23 : decode cX0_kick 23 = .ok (.getfield 72, 3) := by decide +kernel
theorem dX0_kick_26 : decode cX0_kick 26 = .ok (.ishr, 1) := by decide +kernel
theorem dX0_kick_27 : decode cX0_kick 27 = .ok (.iadd, 1) := by decide +kernel
theorem dX0_kick_28 : decode cX0_kick 28 = .ok (.iastore, 1) := by decide +kernel
theorem dX0_kick_29 : decode cX0_kick 29 = .ok (.iinc 2 1, 3) := by decide +kernel
theorem dX0_kick_32 : decode cX0_kick 32 = .ok (.goto (-30), 3) := by decide +kernel
theorem dX0_kick_35 : decode cX0_kick 35 = .ok (.return_, 1) := by decide +kernel
abbrev cX0_turn : ByteArray := prog_1_method_21_code
def yX0_turn : MethodName := ⟨RX0, "turn", "(I)I"⟩
theorem dX0_turn_0 : decode cX0_turn 0 = .ok (.iload_n 1, 1) := by decide +kernel
theorem dX0_turn_1 : decode cX0_turn 1 = .ok (.invokestatic 69, 3) := by decide +kernel
theorem dX0_turn_4 : decode cX0_turn 4 = .ok (.ifCond .ne 5, 3) := by decide +kernel
theorem dX0_turn_7 : decode cX0_turn 7 = .ok (.iconst (-1), 1) := by decide +kernel
theorem dX0_turn_8 : decode cX0_turn 8 = .ok (.ireturn, 1) := by decide +kernel
theorem dX0_turn_9 : decode cX0_turn 9 = .ok (.iconst 4, 1) := by decide +kernel
theorem dX0_turn_10 : decode cX0_turn 10 = .ok (.iload_n 1, 1) := by decide +kernel
theorem dX0_turn_11 : decode cX0_turn 11 = .ok (.imul, 1) := by decide +kernel
theorem dX0_turn_12 : decode cX0_turn 12 = .ok (.istore_n 2, 1) := by decide +kernel
theorem dX0_turn_13 : decode cX0_turn 13 = .ok (.iload_n 2, 1) := by decide +kernel
theorem dX0_turn_14 : decode cX0_turn 14 = .ok (.iconst 4, 1) := by decide +kernel
theorem dX0_turn_15 : decode cX0_turn 15 = .ok (.iload_n 1, 1) := by decide +kernel
theorem dX0_turn_16 : decode cX0_turn 16 = .ok (.imul, 1) := by decide +kernel
theorem dX0_turn_17 : decode cX0_turn 17 = .ok (.iconst 4, 1) := by decide +kernel
theorem dX0_turn_18 : decode cX0_turn 18 = .ok (.iadd, 1) := by decide +kernel
theorem dX0_turn_19 : decode cX0_turn 19 = .ok (.if_icmp .ge 22, 3) := by decide +kernel
theorem dX0_turn_22 : decode cX0_turn 22 = .ok (.aload_n 0, 1) := by decide +kernel
theorem dX0_turn_23 : decode cX0_turn 23 = .ok (.getfield 28, 3) := by decide +kernel
theorem dX0_turn_26 : decode cX0_turn 26 = .ok (.iload_n 2, 1) := by decide +kernel
theorem dX0_turn_27 : decode cX0_turn 27 = .ok (.aload_n 0, 1) := by decide +kernel
theorem dX0_turn_28 : decode cX0_turn 28 = .ok (.getfield 28, 3) := by decide +kernel
theorem dX0_turn_31 : decode cX0_turn 31 = .ok (.iload_n 2, 1) := by decide +kernel
theorem dX0_turn_32 : decode cX0_turn 32 = .ok (.iaload, 1) := by decide +kernel
theorem dX0_turn_33 : decode cX0_turn 33 = .ok (.ineg, 1) := by decide +kernel
theorem dX0_turn_34 : decode cX0_turn 34 = .ok (.iastore, 1) := by decide +kernel
theorem dX0_turn_35 : decode cX0_turn 35 = .ok (.iinc 2 1, 3) := by decide +kernel
theorem dX0_turn_38 : decode cX0_turn 38 = .ok (.goto (-25), 3) := by decide +kernel
theorem dX0_turn_41 : decode cX0_turn 41 = .ok (.iconst 0, 1) := by decide +kernel
theorem dX0_turn_42 : decode cX0_turn 42 = .ok (.ireturn, 1) := by decide +kernel
abbrev cX0_copy : ByteArray := prog_1_method_22_code
def yX0_copy : MethodName := ⟨RX0, "copy", "(II)I"⟩
theorem dX0_copy_0 : decode cX0_copy 0 = .ok (.iload_n 1, 1) := by decide +kernel
theorem dX0_copy_1 : decode cX0_copy 1 = .ok (.invokestatic 69, 3) := by decide +kernel
theorem dX0_copy_4 : decode cX0_copy 4 = .ok (.ifCond .eq 10, 3) := by decide +kernel
theorem dX0_copy_7 : decode cX0_copy 7 = .ok (.iload_n 2, 1) := by decide +kernel
theorem dX0_copy_8 : decode cX0_copy 8 = .ok (.invokestatic 69, 3) := by decide +kernel
theorem dX0_copy_11 : decode cX0_copy 11 = .ok (.ifCond .ne 5, 3) := by decide +kernel
theorem dX0_copy_14 : decode cX0_copy 14 = .ok (.iconst (-1), 1) := by decide +kernel
theorem dX0_copy_15 : decode cX0_copy 15 = .ok (.ireturn, 1) := by decide +kernel
theorem dX0_copy_16 : decode cX0_copy 16 = .ok (.iconst 0, 1) := by decide +kernel
theorem dX0_copy_17 : decode cX0_copy 17 = .ok (.istore_n 3, 1) := by decide +kernel
theorem dX0_copy_18 : decode cX0_copy 18 = .ok (.iload_n 3, 1) := by decide +kernel
theorem dX0_copy_19 : decode cX0_copy 19 = .ok (.iconst 4, 1) := by decide +kernel
theorem dX0_copy_20 : decode cX0_copy 20 = .ok (.if_icmp .ge 49, 3) := by decide +kernel
theorem dX0_copy_23 : decode cX0_copy 23 = .ok (.aload_n 0, 1) := by decide +kernel
theorem dX0_copy_24 : decode cX0_copy 24 = .ok (.getfield 25, 3) := by decide +kernel
theorem dX0_copy_27 : decode cX0_copy 27 = .ok (.iconst 4, 1) := by decide +kernel
theorem dX0_copy_28 : decode cX0_copy 28 = .ok (.iload_n 2, 1) := by decide +kernel
theorem dX0_copy_29 : decode cX0_copy 29 = .ok (.imul, 1) := by decide +kernel
theorem dX0_copy_30 : decode cX0_copy 30 = .ok (.iload_n 3, 1) := by decide +kernel
theorem dX0_copy_31 : decode cX0_copy 31 = .ok (.iadd, 1) := by decide +kernel
theorem dX0_copy_32 : decode cX0_copy 32 = .ok (.aload_n 0, 1) := by decide +kernel
theorem dX0_copy_33 : decode cX0_copy 33 = .ok (.getfield 25, 3) := by decide +kernel
theorem dX0_copy_36 : decode cX0_copy 36 = .ok (.iconst 4, 1) := by decide +kernel
theorem dX0_copy_37 : decode cX0_copy 37 = .ok (.iload_n 1, 1) := by decide +kernel
theorem dX0_copy_38 : decode cX0_copy 38 = .ok (.imul, 1) := by decide +kernel
theorem dX0_copy_39 : decode cX0_copy 39 = .ok (.iload_n 3, 1) := by decide +kernel
theorem dX0_copy_40 : decode cX0_copy 40 = .ok (.iadd, 1) := by decide +kernel
theorem dX0_copy_41 : decode cX0_copy 41 = .ok (.iaload, 1) := by decide +kernel
theorem dX0_copy_42 : decode cX0_copy 42 = .ok (.iastore, 1) := by decide +kernel
theorem dX0_copy_43 : decode cX0_copy 43 = .ok (.aload_n 0, 1) := by decide +kernel
theorem dX0_copy_44 : decode cX0_copy 44 = .ok (.getfield 28, 3) := by decide +kernel
theorem dX0_copy_47 : decode cX0_copy 47 = .ok (.iconst 4, 1) := by decide +kernel
theorem dX0_copy_48 : decode cX0_copy 48 = .ok (.iload_n 2, 1) := by decide +kernel
theorem dX0_copy_49 : decode cX0_copy 49 = .ok (.imul, 1) := by decide +kernel
theorem dX0_copy_50 : decode cX0_copy 50 = .ok (.iload_n 3, 1) := by decide +kernel
theorem dX0_copy_51 : decode cX0_copy 51 = .ok (.iadd, 1) := by decide +kernel
theorem dX0_copy_52 : decode cX0_copy 52 = .ok (.aload_n 0, 1) := by decide +kernel
theorem dX0_copy_53 : decode cX0_copy 53 = .ok (.getfield 28, 3) := by decide +kernel
theorem dX0_copy_56 : decode cX0_copy 56 = .ok (.iconst 4, 1) := by decide +kernel
theorem dX0_copy_57 : decode cX0_copy 57 = .ok (.iload_n 1, 1) := by decide +kernel
theorem dX0_copy_58 : decode cX0_copy 58 = .ok (.imul, 1) := by decide +kernel
theorem dX0_copy_59 : decode cX0_copy 59 = .ok (.iload_n 3, 1) := by decide +kernel
theorem dX0_copy_60 : decode cX0_copy 60 = .ok (.iadd, 1) := by decide +kernel
theorem dX0_copy_61 : decode cX0_copy 61 = .ok (.iaload, 1) := by decide +kernel
theorem dX0_copy_62 : decode cX0_copy 62 = .ok (.iastore, 1) := by decide +kernel
theorem dX0_copy_63 : decode cX0_copy 63 = .ok (.iinc 3 1, 3) := by decide +kernel
theorem dX0_copy_66 : decode cX0_copy 66 = .ok (.goto (-48), 3) := by decide +kernel
theorem dX0_copy_69 : decode cX0_copy 69 = .ok (.iconst 0, 1) := by decide +kernel
theorem dX0_copy_70 : decode cX0_copy 70 = .ok (.ireturn, 1) := by decide +kernel
end
section
set_option maxRecDepth 100000
abbrev cX0_live : ByteArray := prog_1_method_23_code
def yX0_live : MethodName := ⟨RX0, "live", "()I"⟩
theorem dX0_live_0 : decode cX0_live 0 = .ok (.aload_n 0, 1) := by decide +kernel
theorem dX0_live_1 : decode cX0_live 1 = .ok (.invokevirtual 93, 3) := by decide +kernel
theorem dX0_live_4 : decode cX0_live 4 = .ok (.iconst 0, 1) := by decide +kernel
theorem dX0_live_5 : decode cX0_live 5 = .ok (.istore_n 1, 1) := by decide +kernel
theorem dX0_live_6 : decode cX0_live 6 = .ok (.iconst 0, 1) := by decide +kernel
theorem dX0_live_7 : decode cX0_live 7 = .ok (.istore_n 2, 1) := by decide +kernel
theorem dX0_live_8 : decode cX0_live 8 = .ok (.iload_n 2, 1) := by decide +kernel
theorem dX0_live_9 : decode cX0_live 9 = .ok (.aload_n 0, 1) := by decide +kernel
theorem dX0_live_10 : decode cX0_live 10 = .ok (.getfield 59, 3) := by decide +kernel
theorem dX0_live_13 : decode cX0_live 13 = .ok (.if_icmp .ge 26, 3) := by decide +kernel
theorem dX0_live_16 : decode cX0_live 16 = .ok (.iload_n 1, 1) := by decide +kernel
theorem dX0_live_17 : decode cX0_live 17 = .ok (.aload_n 0, 1) := by decide +kernel
theorem dX0_live_18 : decode cX0_live 18 = .ok (.getfield 40, 3) := by decide +kernel
theorem dX0_live_21 : decode cX0_live 21 = .ok (.iload_n 2, 1) := by decide +kernel
theorem dX0_live_22 : decode cX0_live 22 = .ok (.baload, 1) := by decide +kernel
theorem dX0_live_23 : decode cX0_live 23 = .ok (.ifCond .eq 7, 3) := by decide +kernel
theorem dX0_live_26 : decode cX0_live 26 = .ok (.iconst 1, 1) := by decide +kernel
theorem dX0_live_27 : decode cX0_live 27 = .ok (.goto 4, 3) := by decide +kernel
theorem dX0_live_30 : decode cX0_live 30 = .ok (.iconst 0, 1) := by decide +kernel
theorem dX0_live_31 : decode cX0_live 31 = .ok (.iadd, 1) := by decide +kernel
theorem dX0_live_32 : decode cX0_live 32 = .ok (.istore_n 1, 1) := by decide +kernel
theorem dX0_live_33 : decode cX0_live 33 = .ok (.iinc 2 1, 3) := by decide +kernel
theorem dX0_live_36 : decode cX0_live 36 = .ok (.goto (-28), 3) := by decide +kernel
theorem dX0_live_39 : decode cX0_live 39 = .ok (.iload_n 1, 1) := by decide +kernel
theorem dX0_live_40 : decode cX0_live 40 = .ok (.ireturn, 1) := by decide +kernel
theorem q18 : (Jvm.Cond.initialized "TapeSampler") ∈ lw_all := lw_g (lw_at lw_m1 1 rfl) rfl
theorem q21 : (Jvm.Cond.instantiable "TapeSampler" (16 : Nat)) ∈ lw_all := lw_g (lw_at lw_m1 4 rfl) rfl
theorem q23 : (Jvm.Cond.instanceMethod ({ cls := "TapeSampler", name := "<init>", desc := "()V" } : Jvm.MethodName)) ∈ lw_all := lw_g (lw_at lw_m1 6 rfl) rfl
theorem q24 : (Jvm.Cond.code ({ cls := "TapeSampler", name := "<init>", desc := "()V" } : Jvm.MethodName) prog_1_method_1_code (1 : Nat) (Option.none : Option Jvm.ClassFile.FieldType)) ∈ lw_all := lw_g (lw_at lw_m1 7 rfl) rfl
theorem q25 : (Jvm.Cond.methodLink "TapeSampler" (1 : Nat) ({ cls := "java/lang/Object", name := "<init>", desc := "()V" } : Jvm.MethodName)) ∈ lw_all := lw_g (lw_at lw_m1 8 rfl) rfl
theorem q28 : (Jvm.Cond.fieldLink "TapeSampler" (7 : Nat) "TapeSampler" "kinds" "[I") ∈ lw_all := lw_g (lw_at lw_m1 11 rfl) rfl
theorem q29 : (Jvm.Cond.fieldLink "TapeSampler" (13 : Nat) "TapeSampler" "lefts" "[I") ∈ lw_all := lw_g (lw_at lw_m1 12 rfl) rfl
theorem q30 : (Jvm.Cond.fieldLink "TapeSampler" (16 : Nat) "TapeSampler" "rights" "[I") ∈ lw_all := lw_g (lw_at lw_m1 13 rfl) rfl
theorem q31 : (Jvm.Cond.fieldLink "TapeSampler" (19 : Nat) "TapeSampler" "termNode" "[I") ∈ lw_all := lw_g (lw_at lw_m1 14 rfl) rfl
theorem q32 : (Jvm.Cond.fieldLink "TapeSampler" (22 : Nat) "TapeSampler" "termWeight" "[I") ∈ lw_all := lw_g (lw_at lw_m1 15 rfl) rfl
theorem q33 : (Jvm.Cond.fieldLink "TapeSampler" (25 : Nat) "TapeSampler" "positions" "[I") ∈ lw_all := lw_g (lw_at lw_m1 16 rfl) rfl
theorem q34 : (Jvm.Cond.fieldLink "TapeSampler" (28 : Nat) "TapeSampler" "momenta" "[I") ∈ lw_all := lw_g (lw_at lw_m1 17 rfl) rfl
theorem q35 : (Jvm.Cond.fieldLink "TapeSampler" (31 : Nat) "TapeSampler" "values" "[I") ∈ lw_all := lw_g (lw_at lw_m1 18 rfl) rfl
theorem q36 : (Jvm.Cond.fieldLink "TapeSampler" (34 : Nat) "TapeSampler" "shares" "[I") ∈ lw_all := lw_g (lw_at lw_m1 19 rfl) rfl
theorem q37 : (Jvm.Cond.fieldLink "TapeSampler" (37 : Nat) "TapeSampler" "changes" "[I") ∈ lw_all := lw_g (lw_at lw_m1 20 rfl) rfl
theorem q38 : (Jvm.Cond.fieldLink "TapeSampler" (40 : Nat) "TapeSampler" "needed" "[Z") ∈ lw_all := lw_g (lw_at lw_m1 21 rfl) rfl
theorem q39 : (Jvm.Cond.fieldLink "TapeSampler" (44 : Nat) "TapeSampler" "slopes" "[I") ∈ lw_all := lw_g (lw_at lw_m1 22 rfl) rfl
theorem q40 : (Jvm.Cond.fieldLink "TapeSampler" (59 : Nat) "TapeSampler" "count" "I") ∈ lw_all := lw_g (lw_at lw_m1 23 rfl) rfl
theorem q41 : (Jvm.Cond.fieldLink "TapeSampler" (66 : Nat) "TapeSampler" "termCount" "I") ∈ lw_all := lw_g (lw_at lw_m1 24 rfl) rfl
theorem q42 : (Jvm.Cond.fieldLink "TapeSampler" (72 : Nat) "TapeSampler" "right" "I") ∈ lw_all := lw_g (lw_at lw_m1 25 rfl) rfl
theorem q43 : (Jvm.Cond.fieldLink "TapeSampler" (47 : Nat) "TapeSampler" "marked" "Z") ∈ lw_all := lw_g (lw_at lw_m1 26 rfl) rfl
theorem q44 : (Jvm.Cond.laysFinal "TapeSampler" "TapeSampler" "kinds" "[I") ∈ lw_all := lw_g (lw_at lw_m1 27 rfl) rfl
theorem q45 : (Jvm.Cond.soleField "TapeSampler" "kinds") ∈ lw_all := lw_g (lw_at lw_m1 28 rfl) rfl
theorem q46 : (Jvm.Cond.laysFinal "TapeSampler" "TapeSampler" "lefts" "[I") ∈ lw_all := lw_g (lw_at lw_m1 29 rfl) rfl
theorem q47 : (Jvm.Cond.soleField "TapeSampler" "lefts") ∈ lw_all := lw_g (lw_at lw_m1 30 rfl) rfl
theorem q48 : (Jvm.Cond.laysFinal "TapeSampler" "TapeSampler" "rights" "[I") ∈ lw_all := lw_g (lw_at lw_m1 31 rfl) rfl
theorem q49 : (Jvm.Cond.soleField "TapeSampler" "rights") ∈ lw_all := lw_g (lw_at lw_m1 32 rfl) rfl
theorem q50 : (Jvm.Cond.laysFinal "TapeSampler" "TapeSampler" "termNode" "[I") ∈ lw_all := lw_g (lw_at lw_m1 33 rfl) rfl
theorem q51 : (Jvm.Cond.soleField "TapeSampler" "termNode") ∈ lw_all := lw_g (lw_at lw_m1 34 rfl) rfl
theorem q52 : (Jvm.Cond.laysFinal "TapeSampler" "TapeSampler" "termWeight" "[I") ∈ lw_all := lw_g (lw_at lw_m1 35 rfl) rfl
theorem q53 : (Jvm.Cond.soleField "TapeSampler" "termWeight") ∈ lw_all := lw_g (lw_at lw_m1 36 rfl) rfl
theorem q54 : (Jvm.Cond.laysFinal "TapeSampler" "TapeSampler" "positions" "[I") ∈ lw_all := lw_g (lw_at lw_m1 37 rfl) rfl
theorem q55 : (Jvm.Cond.soleField "TapeSampler" "positions") ∈ lw_all := lw_g (lw_at lw_m1 38 rfl) rfl
theorem q56 : (Jvm.Cond.laysFinal "TapeSampler" "TapeSampler" "momenta" "[I") ∈ lw_all := lw_g (lw_at lw_m1 39 rfl) rfl
theorem q57 : (Jvm.Cond.soleField "TapeSampler" "momenta") ∈ lw_all := lw_g (lw_at lw_m1 40 rfl) rfl
theorem q58 : (Jvm.Cond.laysFinal "TapeSampler" "TapeSampler" "values" "[I") ∈ lw_all := lw_g (lw_at lw_m1 41 rfl) rfl
theorem q59 : (Jvm.Cond.soleField "TapeSampler" "values") ∈ lw_all := lw_g (lw_at lw_m1 42 rfl) rfl
theorem q60 : (Jvm.Cond.laysFinal "TapeSampler" "TapeSampler" "shares" "[I") ∈ lw_all := lw_g (lw_at lw_m1 43 rfl) rfl
theorem q61 : (Jvm.Cond.soleField "TapeSampler" "shares") ∈ lw_all := lw_g (lw_at lw_m1 44 rfl) rfl
theorem q62 : (Jvm.Cond.laysFinal "TapeSampler" "TapeSampler" "changes" "[I") ∈ lw_all := lw_g (lw_at lw_m1 45 rfl) rfl
theorem q63 : (Jvm.Cond.soleField "TapeSampler" "changes") ∈ lw_all := lw_g (lw_at lw_m1 46 rfl) rfl
theorem q64 : (Jvm.Cond.laysFinal "TapeSampler" "TapeSampler" "needed" "[Z") ∈ lw_all := lw_g (lw_at lw_m1 47 rfl) rfl
theorem q65 : (Jvm.Cond.soleField "TapeSampler" "needed") ∈ lw_all := lw_g (lw_at lw_m1 48 rfl) rfl
theorem q66 : (Jvm.Cond.laysFinal "TapeSampler" "TapeSampler" "slopes" "[I") ∈ lw_all := lw_g (lw_at lw_m1 49 rfl) rfl
theorem q67 : (Jvm.Cond.soleField "TapeSampler" "slopes") ∈ lw_all := lw_g (lw_at lw_m1 50 rfl) rfl
theorem q68 : (Jvm.Cond.lays "TapeSampler" "TapeSampler" "count" "I") ∈ lw_all := lw_g (lw_at lw_m1 51 rfl) rfl
theorem q69 : (Jvm.Cond.soleField "TapeSampler" "count") ∈ lw_all := lw_g (lw_at lw_m1 52 rfl) rfl
theorem q70 : (Jvm.Cond.lays "TapeSampler" "TapeSampler" "termCount" "I") ∈ lw_all := lw_g (lw_at lw_m1 53 rfl) rfl
theorem q71 : (Jvm.Cond.soleField "TapeSampler" "termCount") ∈ lw_all := lw_g (lw_at lw_m1 54 rfl) rfl
theorem q72 : (Jvm.Cond.lays "TapeSampler" "TapeSampler" "right" "I") ∈ lw_all := lw_g (lw_at lw_m1 55 rfl) rfl
theorem q73 : (Jvm.Cond.soleField "TapeSampler" "right") ∈ lw_all := lw_g (lw_at lw_m1 56 rfl) rfl
theorem q74 : (Jvm.Cond.lays "TapeSampler" "TapeSampler" "marked" "Z") ∈ lw_all := lw_g (lw_at lw_m1 57 rfl) rfl
theorem q75 : (Jvm.Cond.soleField "TapeSampler" "marked") ∈ lw_all := lw_g (lw_at lw_m1 58 rfl) rfl
theorem q76 : (Jvm.Cond.superclass "TapeSampler" "java/lang/Object") ∈ lw_all := lw_g (lw_at lw_m1 59 rfl) rfl
theorem q80 : (Jvm.Cond.instanceMethod ({ cls := "TapeSampler", name := "parameter", desc := "(I)I" } : Jvm.MethodName)) ∈ lw_all := lw_g (lw_at lw_m1 63 rfl) rfl
theorem q81 : (Jvm.Cond.selects "TapeSampler" ({ cls := "TapeSampler", name := "parameter", desc := "(I)I" } : Jvm.MethodName) ({ cls := "TapeSampler", name := "parameter", desc := "(I)I" } : Jvm.MethodName)) ∈ lw_all := lw_g (lw_at lw_m1 64 rfl) rfl
theorem q82 : (Jvm.Cond.code ({ cls := "TapeSampler", name := "parameter", desc := "(I)I" } : Jvm.MethodName) prog_1_method_2_code (2 : Nat) (Option.some Jvm.ClassFile.FieldType.int)) ∈ lw_all := lw_g (lw_at lw_m1 65 rfl) rfl
theorem q83 : (Jvm.Cond.methodLink "TapeSampler" (51 : Nat) ({ cls := "TapeSampler", name := "isParameter", desc := "(I)Z" } : Jvm.MethodName)) ∈ lw_all := lw_g (lw_at lw_m1 66 rfl) rfl
theorem q84 : (Jvm.Cond.static ({ cls := "TapeSampler", name := "isParameter", desc := "(I)Z" } : Jvm.MethodName)) ∈ lw_all := lw_g (lw_at lw_m1 67 rfl) rfl
theorem q85 : (Jvm.Cond.code ({ cls := "TapeSampler", name := "isParameter", desc := "(I)Z" } : Jvm.MethodName) prog_1_method_25_code (1 : Nat) (Option.some Jvm.ClassFile.FieldType.boolean)) ∈ lw_all := lw_g (lw_at lw_m1 68 rfl) rfl
theorem q86 : (Jvm.Cond.methodLink "TapeSampler" (55 : Nat) ({ cls := "TapeSampler", name := "make", desc := "(III)I" } : Jvm.MethodName)) ∈ lw_all := lw_g (lw_at lw_m1 69 rfl) rfl
theorem q87 : (Jvm.Cond.privateMethod ({ cls := "TapeSampler", name := "make", desc := "(III)I" } : Jvm.MethodName)) ∈ lw_tbl := lw_at lw_m1 70 rfl
theorem q88 : (Jvm.Cond.instanceMethod ({ cls := "TapeSampler", name := "make", desc := "(III)I" } : Jvm.MethodName)) ∈ lw_all := lw_g (lw_at lw_m1 71 rfl) rfl
theorem q89 : (Jvm.Cond.code ({ cls := "TapeSampler", name := "make", desc := "(III)I" } : Jvm.MethodName) prog_1_method_27_code (4 : Nat) (Option.some Jvm.ClassFile.FieldType.int)) ∈ lw_all := lw_g (lw_at lw_m1 72 rfl) rfl
theorem q91 : (Jvm.Cond.instanceMethod ({ cls := "TapeSampler", name := "constant", desc := "(I)I" } : Jvm.MethodName)) ∈ lw_all := lw_g (lw_at lw_m1 74 rfl) rfl
theorem q92 : (Jvm.Cond.selects "TapeSampler" ({ cls := "TapeSampler", name := "constant", desc := "(I)I" } : Jvm.MethodName) ({ cls := "TapeSampler", name := "constant", desc := "(I)I" } : Jvm.MethodName)) ∈ lw_all := lw_g (lw_at lw_m1 75 rfl) rfl
theorem q93 : (Jvm.Cond.code ({ cls := "TapeSampler", name := "constant", desc := "(I)I" } : Jvm.MethodName) prog_1_method_3_code (2 : Nat) (Option.some Jvm.ClassFile.FieldType.int)) ∈ lw_all := lw_g (lw_at lw_m1 76 rfl) rfl
theorem q95 : (Jvm.Cond.instanceMethod ({ cls := "TapeSampler", name := "combine", desc := "(III)I" } : Jvm.MethodName)) ∈ lw_all := lw_g (lw_at lw_m1 78 rfl) rfl
theorem q96 : (Jvm.Cond.selects "TapeSampler" ({ cls := "TapeSampler", name := "combine", desc := "(III)I" } : Jvm.MethodName) ({ cls := "TapeSampler", name := "combine", desc := "(III)I" } : Jvm.MethodName)) ∈ lw_all := lw_g (lw_at lw_m1 79 rfl) rfl
theorem q97 : (Jvm.Cond.code ({ cls := "TapeSampler", name := "combine", desc := "(III)I" } : Jvm.MethodName) prog_1_method_4_code (4 : Nat) (Option.some Jvm.ClassFile.FieldType.int)) ∈ lw_all := lw_g (lw_at lw_m1 80 rfl) rfl
theorem q98 : (Jvm.Cond.methodLink "TapeSampler" (63 : Nat) ({ cls := "TapeSampler", name := "isNode", desc := "(I)Z" } : Jvm.MethodName)) ∈ lw_all := lw_g (lw_at lw_m1 81 rfl) rfl
theorem q99 : (Jvm.Cond.privateMethod ({ cls := "TapeSampler", name := "isNode", desc := "(I)Z" } : Jvm.MethodName)) ∈ lw_tbl := lw_at lw_m1 82 rfl
theorem q100 : (Jvm.Cond.instanceMethod ({ cls := "TapeSampler", name := "isNode", desc := "(I)Z" } : Jvm.MethodName)) ∈ lw_all := lw_g (lw_at lw_m1 83 rfl) rfl
theorem q101 : (Jvm.Cond.code ({ cls := "TapeSampler", name := "isNode", desc := "(I)Z" } : Jvm.MethodName) prog_1_method_26_code (2 : Nat) (Option.some Jvm.ClassFile.FieldType.boolean)) ∈ lw_all := lw_g (lw_at lw_m1 84 rfl) rfl
theorem q103 : (Jvm.Cond.instanceMethod ({ cls := "TapeSampler", name := "square", desc := "(I)I" } : Jvm.MethodName)) ∈ lw_all := lw_g (lw_at lw_m1 86 rfl) rfl
theorem q104 : (Jvm.Cond.selects "TapeSampler" ({ cls := "TapeSampler", name := "square", desc := "(I)I" } : Jvm.MethodName) ({ cls := "TapeSampler", name := "square", desc := "(I)I" } : Jvm.MethodName)) ∈ lw_all := lw_g (lw_at lw_m1 87 rfl) rfl
theorem q105 : (Jvm.Cond.code ({ cls := "TapeSampler", name := "square", desc := "(I)I" } : Jvm.MethodName) prog_1_method_5_code (2 : Nat) (Option.some Jvm.ClassFile.FieldType.int)) ∈ lw_all := lw_g (lw_at lw_m1 88 rfl) rfl
theorem q107 : (Jvm.Cond.instanceMethod ({ cls := "TapeSampler", name := "term", desc := "(II)I" } : Jvm.MethodName)) ∈ lw_all := lw_g (lw_at lw_m1 90 rfl) rfl
theorem q108 : (Jvm.Cond.selects "TapeSampler" ({ cls := "TapeSampler", name := "term", desc := "(II)I" } : Jvm.MethodName) ({ cls := "TapeSampler", name := "term", desc := "(II)I" } : Jvm.MethodName)) ∈ lw_all := lw_g (lw_at lw_m1 91 rfl) rfl
theorem q109 : (Jvm.Cond.code ({ cls := "TapeSampler", name := "term", desc := "(II)I" } : Jvm.MethodName) prog_1_method_6_code (3 : Nat) (Option.some Jvm.ClassFile.FieldType.int)) ∈ lw_all := lw_g (lw_at lw_m1 92 rfl) rfl
theorem q111 : (Jvm.Cond.instanceMethod ({ cls := "TapeSampler", name := "clear", desc := "()I" } : Jvm.MethodName)) ∈ lw_all := lw_g (lw_at lw_m1 94 rfl) rfl
theorem q112 : (Jvm.Cond.selects "TapeSampler" ({ cls := "TapeSampler", name := "clear", desc := "()I" } : Jvm.MethodName) ({ cls := "TapeSampler", name := "clear", desc := "()I" } : Jvm.MethodName)) ∈ lw_all := lw_g (lw_at lw_m1 95 rfl) rfl
theorem q113 : (Jvm.Cond.code ({ cls := "TapeSampler", name := "clear", desc := "()I" } : Jvm.MethodName) prog_1_method_7_code (2 : Nat) (Option.some Jvm.ClassFile.FieldType.int)) ∈ lw_all := lw_g (lw_at lw_m1 96 rfl) rfl
theorem q115 : (Jvm.Cond.instanceMethod ({ cls := "TapeSampler", name := "nodes", desc := "()I" } : Jvm.MethodName)) ∈ lw_all := lw_g (lw_at lw_m1 98 rfl) rfl
theorem q116 : (Jvm.Cond.selects "TapeSampler" ({ cls := "TapeSampler", name := "nodes", desc := "()I" } : Jvm.MethodName) ({ cls := "TapeSampler", name := "nodes", desc := "()I" } : Jvm.MethodName)) ∈ lw_all := lw_g (lw_at lw_m1 99 rfl) rfl
theorem q117 : (Jvm.Cond.code ({ cls := "TapeSampler", name := "nodes", desc := "()I" } : Jvm.MethodName) prog_1_method_8_code (1 : Nat) (Option.some Jvm.ClassFile.FieldType.int)) ∈ lw_all := lw_g (lw_at lw_m1 100 rfl) rfl
theorem q119 : (Jvm.Cond.instanceMethod ({ cls := "TapeSampler", name := "terms", desc := "()I" } : Jvm.MethodName)) ∈ lw_all := lw_g (lw_at lw_m1 102 rfl) rfl
theorem q120 : (Jvm.Cond.selects "TapeSampler" ({ cls := "TapeSampler", name := "terms", desc := "()I" } : Jvm.MethodName) ({ cls := "TapeSampler", name := "terms", desc := "()I" } : Jvm.MethodName)) ∈ lw_all := lw_g (lw_at lw_m1 103 rfl) rfl
theorem q121 : (Jvm.Cond.code ({ cls := "TapeSampler", name := "terms", desc := "()I" } : Jvm.MethodName) prog_1_method_9_code (1 : Nat) (Option.some Jvm.ClassFile.FieldType.int)) ∈ lw_all := lw_g (lw_at lw_m1 104 rfl) rfl
theorem q123 : (Jvm.Cond.instanceMethod ({ cls := "TapeSampler", name := "place", desc := "(III)I" } : Jvm.MethodName)) ∈ lw_all := lw_g (lw_at lw_m1 106 rfl) rfl
theorem q124 : (Jvm.Cond.selects "TapeSampler" ({ cls := "TapeSampler", name := "place", desc := "(III)I" } : Jvm.MethodName) ({ cls := "TapeSampler", name := "place", desc := "(III)I" } : Jvm.MethodName)) ∈ lw_all := lw_g (lw_at lw_m1 107 rfl) rfl
theorem q125 : (Jvm.Cond.code ({ cls := "TapeSampler", name := "place", desc := "(III)I" } : Jvm.MethodName) prog_1_method_10_code (4 : Nat) (Option.some Jvm.ClassFile.FieldType.int)) ∈ lw_all := lw_g (lw_at lw_m1 108 rfl) rfl
theorem q126 : (Jvm.Cond.methodLink "TapeSampler" (69 : Nat) ({ cls := "TapeSampler", name := "isChain", desc := "(I)Z" } : Jvm.MethodName)) ∈ lw_all := lw_g (lw_at lw_m1 109 rfl) rfl
theorem q127 : (Jvm.Cond.static ({ cls := "TapeSampler", name := "isChain", desc := "(I)Z" } : Jvm.MethodName)) ∈ lw_all := lw_g (lw_at lw_m1 110 rfl) rfl
theorem q128 : (Jvm.Cond.code ({ cls := "TapeSampler", name := "isChain", desc := "(I)Z" } : Jvm.MethodName) prog_1_method_24_code (1 : Nat) (Option.some Jvm.ClassFile.FieldType.boolean)) ∈ lw_all := lw_g (lw_at lw_m1 111 rfl) rfl
theorem q130 : (Jvm.Cond.instanceMethod ({ cls := "TapeSampler", name := "push", desc := "(III)I" } : Jvm.MethodName)) ∈ lw_all := lw_g (lw_at lw_m1 113 rfl) rfl
theorem q131 : (Jvm.Cond.selects "TapeSampler" ({ cls := "TapeSampler", name := "push", desc := "(III)I" } : Jvm.MethodName) ({ cls := "TapeSampler", name := "push", desc := "(III)I" } : Jvm.MethodName)) ∈ lw_all := lw_g (lw_at lw_m1 114 rfl) rfl
theorem q132 : (Jvm.Cond.code ({ cls := "TapeSampler", name := "push", desc := "(III)I" } : Jvm.MethodName) prog_1_method_11_code (4 : Nat) (Option.some Jvm.ClassFile.FieldType.int)) ∈ lw_all := lw_g (lw_at lw_m1 115 rfl) rfl
theorem q134 : (Jvm.Cond.instanceMethod ({ cls := "TapeSampler", name := "shift", desc := "(I)I" } : Jvm.MethodName)) ∈ lw_all := lw_g (lw_at lw_m1 117 rfl) rfl
theorem q135 : (Jvm.Cond.selects "TapeSampler" ({ cls := "TapeSampler", name := "shift", desc := "(I)I" } : Jvm.MethodName) ({ cls := "TapeSampler", name := "shift", desc := "(I)I" } : Jvm.MethodName)) ∈ lw_all := lw_g (lw_at lw_m1 118 rfl) rfl
theorem q136 : (Jvm.Cond.code ({ cls := "TapeSampler", name := "shift", desc := "(I)I" } : Jvm.MethodName) prog_1_method_12_code (3 : Nat) (Option.some Jvm.ClassFile.FieldType.int)) ∈ lw_all := lw_g (lw_at lw_m1 119 rfl) rfl
theorem q138 : (Jvm.Cond.instanceMethod ({ cls := "TapeSampler", name := "position", desc := "(II)I" } : Jvm.MethodName)) ∈ lw_all := lw_g (lw_at lw_m1 121 rfl) rfl
theorem q139 : (Jvm.Cond.selects "TapeSampler" ({ cls := "TapeSampler", name := "position", desc := "(II)I" } : Jvm.MethodName) ({ cls := "TapeSampler", name := "position", desc := "(II)I" } : Jvm.MethodName)) ∈ lw_all := lw_g (lw_at lw_m1 122 rfl) rfl
theorem q140 : (Jvm.Cond.code ({ cls := "TapeSampler", name := "position", desc := "(II)I" } : Jvm.MethodName) prog_1_method_13_code (3 : Nat) (Option.some Jvm.ClassFile.FieldType.int)) ∈ lw_all := lw_g (lw_at lw_m1 123 rfl) rfl
theorem q142 : (Jvm.Cond.instanceMethod ({ cls := "TapeSampler", name := "momentum", desc := "(II)I" } : Jvm.MethodName)) ∈ lw_all := lw_g (lw_at lw_m1 125 rfl) rfl
theorem q143 : (Jvm.Cond.selects "TapeSampler" ({ cls := "TapeSampler", name := "momentum", desc := "(II)I" } : Jvm.MethodName) ({ cls := "TapeSampler", name := "momentum", desc := "(II)I" } : Jvm.MethodName)) ∈ lw_all := lw_g (lw_at lw_m1 126 rfl) rfl
theorem q144 : (Jvm.Cond.code ({ cls := "TapeSampler", name := "momentum", desc := "(II)I" } : Jvm.MethodName) prog_1_method_14_code (3 : Nat) (Option.some Jvm.ClassFile.FieldType.int)) ∈ lw_all := lw_g (lw_at lw_m1 127 rfl) rfl
theorem q146 : (Jvm.Cond.instanceMethod ({ cls := "TapeSampler", name := "valueOf", desc := "(II)I" } : Jvm.MethodName)) ∈ lw_all := lw_g (lw_at lw_m1 129 rfl) rfl
theorem q147 : (Jvm.Cond.selects "TapeSampler" ({ cls := "TapeSampler", name := "valueOf", desc := "(II)I" } : Jvm.MethodName) ({ cls := "TapeSampler", name := "valueOf", desc := "(II)I" } : Jvm.MethodName)) ∈ lw_all := lw_g (lw_at lw_m1 130 rfl) rfl
theorem q148 : (Jvm.Cond.code ({ cls := "TapeSampler", name := "valueOf", desc := "(II)I" } : Jvm.MethodName) prog_1_method_15_code (4 : Nat) (Option.some Jvm.ClassFile.FieldType.int)) ∈ lw_all := lw_g (lw_at lw_m1 131 rfl) rfl
theorem q149 : (Jvm.Cond.methodLink "TapeSampler" (75 : Nat) ({ cls := "TapeSampler", name := "computed", desc := "(II)I" } : Jvm.MethodName)) ∈ lw_all := lw_g (lw_at lw_m1 132 rfl) rfl
theorem q150 : (Jvm.Cond.privateMethod ({ cls := "TapeSampler", name := "computed", desc := "(II)I" } : Jvm.MethodName)) ∈ lw_tbl := lw_at lw_m1 133 rfl
theorem q151 : (Jvm.Cond.instanceMethod ({ cls := "TapeSampler", name := "computed", desc := "(II)I" } : Jvm.MethodName)) ∈ lw_all := lw_g (lw_at lw_m1 134 rfl) rfl
theorem q152 : (Jvm.Cond.code ({ cls := "TapeSampler", name := "computed", desc := "(II)I" } : Jvm.MethodName) prog_1_method_30_code (6 : Nat) (Option.some Jvm.ClassFile.FieldType.int)) ∈ lw_all := lw_g (lw_at lw_m1 135 rfl) rfl
theorem q154 : (Jvm.Cond.instanceMethod ({ cls := "TapeSampler", name := "target", desc := "(I)I" } : Jvm.MethodName)) ∈ lw_all := lw_g (lw_at lw_m1 137 rfl) rfl
theorem q155 : (Jvm.Cond.selects "TapeSampler" ({ cls := "TapeSampler", name := "target", desc := "(I)I" } : Jvm.MethodName) ({ cls := "TapeSampler", name := "target", desc := "(I)I" } : Jvm.MethodName)) ∈ lw_all := lw_g (lw_at lw_m1 138 rfl) rfl
theorem q156 : (Jvm.Cond.code ({ cls := "TapeSampler", name := "target", desc := "(I)I" } : Jvm.MethodName) prog_1_method_16_code (2 : Nat) (Option.some Jvm.ClassFile.FieldType.int)) ∈ lw_all := lw_g (lw_at lw_m1 139 rfl) rfl
theorem q157 : (Jvm.Cond.methodLink "TapeSampler" (79 : Nat) ({ cls := "TapeSampler", name := "evaluate", desc := "(I)I" } : Jvm.MethodName)) ∈ lw_all := lw_g (lw_at lw_m1 140 rfl) rfl
theorem q158 : (Jvm.Cond.privateMethod ({ cls := "TapeSampler", name := "evaluate", desc := "(I)I" } : Jvm.MethodName)) ∈ lw_tbl := lw_at lw_m1 141 rfl
theorem q159 : (Jvm.Cond.instanceMethod ({ cls := "TapeSampler", name := "evaluate", desc := "(I)I" } : Jvm.MethodName)) ∈ lw_all := lw_g (lw_at lw_m1 142 rfl) rfl
theorem q160 : (Jvm.Cond.code ({ cls := "TapeSampler", name := "evaluate", desc := "(I)I" } : Jvm.MethodName) prog_1_method_32_code (4 : Nat) (Option.some Jvm.ClassFile.FieldType.int)) ∈ lw_all := lw_g (lw_at lw_m1 143 rfl) rfl
theorem q161 : (Jvm.Cond.methodLink "TapeSampler" (93 : Nat) ({ cls := "TapeSampler", name := "mark", desc := "()V" } : Jvm.MethodName)) ∈ lw_all := lw_g (lw_at lw_m1 144 rfl) rfl
theorem q162 : (Jvm.Cond.privateMethod ({ cls := "TapeSampler", name := "mark", desc := "()V" } : Jvm.MethodName)) ∈ lw_tbl := lw_at lw_m1 145 rfl
theorem q163 : (Jvm.Cond.instanceMethod ({ cls := "TapeSampler", name := "mark", desc := "()V" } : Jvm.MethodName)) ∈ lw_all := lw_g (lw_at lw_m1 146 rfl) rfl
theorem q164 : (Jvm.Cond.code ({ cls := "TapeSampler", name := "mark", desc := "()V" } : Jvm.MethodName) prog_1_method_29_code (2 : Nat) (Option.none : Option Jvm.ClassFile.FieldType)) ∈ lw_all := lw_g (lw_at lw_m1 147 rfl) rfl
theorem q165 : (Jvm.Cond.methodLink "TapeSampler" (96 : Nat) ({ cls := "TapeSampler", name := "hasParts", desc := "(I)Z" } : Jvm.MethodName)) ∈ lw_all := lw_g (lw_at lw_m1 148 rfl) rfl
theorem q166 : (Jvm.Cond.static ({ cls := "TapeSampler", name := "hasParts", desc := "(I)Z" } : Jvm.MethodName)) ∈ lw_all := lw_g (lw_at lw_m1 149 rfl) rfl
theorem q167 : (Jvm.Cond.code ({ cls := "TapeSampler", name := "hasParts", desc := "(I)Z" } : Jvm.MethodName) prog_1_method_28_code (1 : Nat) (Option.some Jvm.ClassFile.FieldType.boolean)) ∈ lw_all := lw_g (lw_at lw_m1 150 rfl) rfl
theorem q169 : (Jvm.Cond.instanceMethod ({ cls := "TapeSampler", name := "slope", desc := "(II)I" } : Jvm.MethodName)) ∈ lw_all := lw_g (lw_at lw_m1 152 rfl) rfl
theorem q170 : (Jvm.Cond.selects "TapeSampler" ({ cls := "TapeSampler", name := "slope", desc := "(II)I" } : Jvm.MethodName) ({ cls := "TapeSampler", name := "slope", desc := "(II)I" } : Jvm.MethodName)) ∈ lw_all := lw_g (lw_at lw_m1 153 rfl) rfl
theorem q171 : (Jvm.Cond.code ({ cls := "TapeSampler", name := "slope", desc := "(II)I" } : Jvm.MethodName) prog_1_method_17_code (3 : Nat) (Option.some Jvm.ClassFile.FieldType.int)) ∈ lw_all := lw_g (lw_at lw_m1 154 rfl) rfl
theorem q172 : (Jvm.Cond.methodLink "TapeSampler" (83 : Nat) ({ cls := "TapeSampler", name := "sweep", desc := "(I)V" } : Jvm.MethodName)) ∈ lw_all := lw_g (lw_at lw_m1 155 rfl) rfl
theorem q173 : (Jvm.Cond.privateMethod ({ cls := "TapeSampler", name := "sweep", desc := "(I)V" } : Jvm.MethodName)) ∈ lw_tbl := lw_at lw_m1 156 rfl
theorem q174 : (Jvm.Cond.instanceMethod ({ cls := "TapeSampler", name := "sweep", desc := "(I)V" } : Jvm.MethodName)) ∈ lw_all := lw_g (lw_at lw_m1 157 rfl) rfl
theorem q175 : (Jvm.Cond.code ({ cls := "TapeSampler", name := "sweep", desc := "(I)V" } : Jvm.MethodName) prog_1_method_33_code (3 : Nat) (Option.none : Option Jvm.ClassFile.FieldType)) ∈ lw_all := lw_g (lw_at lw_m1 158 rfl) rfl
theorem q176 : (Jvm.Cond.methodLink "TapeSampler" (99 : Nat) ({ cls := "TapeSampler", name := "handOn", desc := "(I)V" } : Jvm.MethodName)) ∈ lw_all := lw_g (lw_at lw_m1 159 rfl) rfl
theorem q177 : (Jvm.Cond.privateMethod ({ cls := "TapeSampler", name := "handOn", desc := "(I)V" } : Jvm.MethodName)) ∈ lw_tbl := lw_at lw_m1 160 rfl
theorem q178 : (Jvm.Cond.instanceMethod ({ cls := "TapeSampler", name := "handOn", desc := "(I)V" } : Jvm.MethodName)) ∈ lw_all := lw_g (lw_at lw_m1 161 rfl) rfl
theorem q179 : (Jvm.Cond.code ({ cls := "TapeSampler", name := "handOn", desc := "(I)V" } : Jvm.MethodName) prog_1_method_34_code (6 : Nat) (Option.none : Option Jvm.ClassFile.FieldType)) ∈ lw_all := lw_g (lw_at lw_m1 162 rfl) rfl
theorem q181 : (Jvm.Cond.instanceMethod ({ cls := "TapeSampler", name := "drift", desc := "(I)I" } : Jvm.MethodName)) ∈ lw_all := lw_g (lw_at lw_m1 164 rfl) rfl
theorem q182 : (Jvm.Cond.selects "TapeSampler" ({ cls := "TapeSampler", name := "drift", desc := "(I)I" } : Jvm.MethodName) ({ cls := "TapeSampler", name := "drift", desc := "(I)I" } : Jvm.MethodName)) ∈ lw_all := lw_g (lw_at lw_m1 165 rfl) rfl
theorem q183 : (Jvm.Cond.code ({ cls := "TapeSampler", name := "drift", desc := "(I)I" } : Jvm.MethodName) prog_1_method_18_code (5 : Nat) (Option.some Jvm.ClassFile.FieldType.int)) ∈ lw_all := lw_g (lw_at lw_m1 166 rfl) rfl
theorem q184 : (Jvm.Cond.methodLink "TapeSampler" (87 : Nat) ({ cls := "TapeSampler", name := "changed", desc := "(II)I" } : Jvm.MethodName)) ∈ lw_all := lw_g (lw_at lw_m1 167 rfl) rfl
theorem q185 : (Jvm.Cond.privateMethod ({ cls := "TapeSampler", name := "changed", desc := "(II)I" } : Jvm.MethodName)) ∈ lw_tbl := lw_at lw_m1 168 rfl
theorem q186 : (Jvm.Cond.instanceMethod ({ cls := "TapeSampler", name := "changed", desc := "(II)I" } : Jvm.MethodName)) ∈ lw_all := lw_g (lw_at lw_m1 169 rfl) rfl
theorem q187 : (Jvm.Cond.code ({ cls := "TapeSampler", name := "changed", desc := "(II)I" } : Jvm.MethodName) prog_1_method_31_code (6 : Nat) (Option.some Jvm.ClassFile.FieldType.int)) ∈ lw_all := lw_g (lw_at lw_m1 170 rfl) rfl
theorem q189 : (Jvm.Cond.instanceMethod ({ cls := "TapeSampler", name := "targetAt", desc := "(III)I" } : Jvm.MethodName)) ∈ lw_all := lw_g (lw_at lw_m1 172 rfl) rfl
theorem q190 : (Jvm.Cond.selects "TapeSampler" ({ cls := "TapeSampler", name := "targetAt", desc := "(III)I" } : Jvm.MethodName) ({ cls := "TapeSampler", name := "targetAt", desc := "(III)I" } : Jvm.MethodName)) ∈ lw_all := lw_g (lw_at lw_m1 173 rfl) rfl
theorem q191 : (Jvm.Cond.code ({ cls := "TapeSampler", name := "targetAt", desc := "(III)I" } : Jvm.MethodName) prog_1_method_19_code (7 : Nat) (Option.some Jvm.ClassFile.FieldType.int)) ∈ lw_all := lw_g (lw_at lw_m1 174 rfl) rfl
theorem q193 : (Jvm.Cond.instanceMethod ({ cls := "TapeSampler", name := "leap", desc := "(II)I" } : Jvm.MethodName)) ∈ lw_all := lw_g (lw_at lw_m1 176 rfl) rfl
theorem q194 : (Jvm.Cond.selects "TapeSampler" ({ cls := "TapeSampler", name := "leap", desc := "(II)I" } : Jvm.MethodName) ({ cls := "TapeSampler", name := "leap", desc := "(II)I" } : Jvm.MethodName)) ∈ lw_all := lw_g (lw_at lw_m1 177 rfl) rfl
theorem q195 : (Jvm.Cond.code ({ cls := "TapeSampler", name := "leap", desc := "(II)I" } : Jvm.MethodName) prog_1_method_20_code (6 : Nat) (Option.some Jvm.ClassFile.FieldType.int)) ∈ lw_all := lw_g (lw_at lw_m1 178 rfl) rfl
theorem q196 : (Jvm.Cond.methodLink "TapeSampler" (90 : Nat) ({ cls := "TapeSampler", name := "kick", desc := "(I)V" } : Jvm.MethodName)) ∈ lw_all := lw_g (lw_at lw_m1 179 rfl) rfl
theorem q197 : (Jvm.Cond.privateMethod ({ cls := "TapeSampler", name := "kick", desc := "(I)V" } : Jvm.MethodName)) ∈ lw_tbl := lw_at lw_m1 180 rfl
theorem q198 : (Jvm.Cond.instanceMethod ({ cls := "TapeSampler", name := "kick", desc := "(I)V" } : Jvm.MethodName)) ∈ lw_all := lw_g (lw_at lw_m1 181 rfl) rfl
theorem q199 : (Jvm.Cond.code ({ cls := "TapeSampler", name := "kick", desc := "(I)V" } : Jvm.MethodName) prog_1_method_35_code (3 : Nat) (Option.none : Option Jvm.ClassFile.FieldType)) ∈ lw_all := lw_g (lw_at lw_m1 182 rfl) rfl
theorem q201 : (Jvm.Cond.instanceMethod ({ cls := "TapeSampler", name := "turn", desc := "(I)I" } : Jvm.MethodName)) ∈ lw_all := lw_g (lw_at lw_m1 184 rfl) rfl
theorem q202 : (Jvm.Cond.selects "TapeSampler" ({ cls := "TapeSampler", name := "turn", desc := "(I)I" } : Jvm.MethodName) ({ cls := "TapeSampler", name := "turn", desc := "(I)I" } : Jvm.MethodName)) ∈ lw_all := lw_g (lw_at lw_m1 185 rfl) rfl
theorem q203 : (Jvm.Cond.code ({ cls := "TapeSampler", name := "turn", desc := "(I)I" } : Jvm.MethodName) prog_1_method_21_code (3 : Nat) (Option.some Jvm.ClassFile.FieldType.int)) ∈ lw_all := lw_g (lw_at lw_m1 186 rfl) rfl
theorem q205 : (Jvm.Cond.instanceMethod ({ cls := "TapeSampler", name := "copy", desc := "(II)I" } : Jvm.MethodName)) ∈ lw_all := lw_g (lw_at lw_m1 188 rfl) rfl
theorem q206 : (Jvm.Cond.selects "TapeSampler" ({ cls := "TapeSampler", name := "copy", desc := "(II)I" } : Jvm.MethodName) ({ cls := "TapeSampler", name := "copy", desc := "(II)I" } : Jvm.MethodName)) ∈ lw_all := lw_g (lw_at lw_m1 189 rfl) rfl
theorem q207 : (Jvm.Cond.code ({ cls := "TapeSampler", name := "copy", desc := "(II)I" } : Jvm.MethodName) prog_1_method_22_code (4 : Nat) (Option.some Jvm.ClassFile.FieldType.int)) ∈ lw_all := lw_g (lw_at lw_m1 190 rfl) rfl
theorem q209 : (Jvm.Cond.instanceMethod ({ cls := "TapeSampler", name := "live", desc := "()I" } : Jvm.MethodName)) ∈ lw_all := lw_g (lw_at lw_m1 192 rfl) rfl
theorem q210 : (Jvm.Cond.selects "TapeSampler" ({ cls := "TapeSampler", name := "live", desc := "()I" } : Jvm.MethodName) ({ cls := "TapeSampler", name := "live", desc := "()I" } : Jvm.MethodName)) ∈ lw_all := lw_g (lw_at lw_m1 193 rfl) rfl
theorem q211 : (Jvm.Cond.code ({ cls := "TapeSampler", name := "live", desc := "()I" } : Jvm.MethodName) prog_1_method_23_code (3 : Nat) (Option.some Jvm.ClassFile.FieldType.int)) ∈ lw_all := lw_g (lw_at lw_m1 194 rfl) rfl
theorem in_X0 : ∀ w ∈ wsX00, w ∈ lw_all := lw_in wsX00 [44, 46, 48, 50, 52, 54, 56, 58, 60, 62, 64, 66, 68, 70, 72, 74] (by decide +kernel) (by decide +kernel)
end
section
/-! TapeSamplerModel -/
set_option maxRecDepth 100000
def RX1 : String := "TapeSamplerModel"
def TX1 : u_T := fun k => match k with
  | 0 => ("TapeSamplerModel", "count", "I", false)
  | 1 => ("TapeSamplerModel", "kind", "[I", false)
  | 2 => ("TapeSamplerModel", "first", "[I", false)
  | 3 => ("TapeSamplerModel", "second", "[I", false)
  | 4 => ("TapeSamplerModel", "many", "I", false)
  | 5 => ("TapeSamplerModel", "node", "[I", false)
  | 6 => ("TapeSamplerModel", "weight", "[I", false)
  | 7 => ("TapeSamplerModel", "bits", "I", false)
  | 8 => ("TapeSamplerModel", "xs", "[I", false)
  | 9 => ("TapeSamplerModel", "ms", "[I", false)
  | 10 => ("TapeSamplerModel", "value", "[I", false)
  | 11 => ("TapeSamplerModel", "rate", "[I", false)
  | 12 => ("TapeSamplerModel", "slopes", "[I", false)
  | _ => ("TapeSamplerModel", "used", "[Z", false)
def tyX1 : Nat → FieldType := fun k => match k with
  | 0 => .int
  | 1 => .array .int
  | 2 => .array .int
  | 3 => .array .int
  | 4 => .int
  | 5 => .array .int
  | 6 => .array .int
  | 7 => .int
  | 8 => .array .int
  | 9 => .array .int
  | 10 => .array .int
  | 11 => .array .int
  | 12 => .array .int
  | _ => .array .boolean
abbrev wsX10 : List Cond := u_ws RX1 TX1 14
set_option maxRecDepth 100000 in
theorem nmX1 : ∀ a, a < 14 → ∀ b, b < 14 → a ≠ b → (TX1 a).2.1 ≠ (TX1 b).2.1 := by decide +kernel
set_option maxRecDepth 100000 in
theorem tyX1_ok : ∀ k, k < 14 → parseFieldDescriptor (TX1 k).2.2.1 = some (tyX1 k) := by decide +kernel
abbrev cX1_init : ByteArray := prog_3_method_1_code
def yX1_init : MethodName := ⟨RX1, "<init>", "()V"⟩
theorem dX1_init_0 : decode cX1_init 0 = .ok (.aload_n 0, 1) := by decide +kernel
theorem dX1_init_1 : decode cX1_init 1 = .ok (.invokespecial 1, 3) := by decide +kernel
theorem dX1_init_4 : decode cX1_init 4 = .ok (.aload_n 0, 1) := by decide +kernel
theorem dX1_init_5 : decode cX1_init 5 = .ok (.bipush 24, 2) := by decide +kernel
theorem dX1_init_7 : decode cX1_init 7 = .ok (.newarray .int, 2) := by decide +kernel
theorem dX1_init_9 : decode cX1_init 9 = .ok (.putfield 7, 3) := by decide +kernel
theorem dX1_init_12 : decode cX1_init 12 = .ok (.aload_n 0, 1) := by decide +kernel
theorem dX1_init_13 : decode cX1_init 13 = .ok (.bipush 24, 2) := by decide +kernel
theorem dX1_init_15 : decode cX1_init 15 = .ok (.newarray .int, 2) := by decide +kernel
theorem dX1_init_17 : decode cX1_init 17 = .ok (.putfield 13, 3) := by decide +kernel
theorem dX1_init_20 : decode cX1_init 20 = .ok (.aload_n 0, 1) := by decide +kernel
theorem dX1_init_21 : decode cX1_init 21 = .ok (.bipush 24, 2) := by decide +kernel
theorem dX1_init_23 : decode cX1_init 23 = .ok (.newarray .int, 2) := by decide +kernel
theorem dX1_init_25 : decode cX1_init 25 = .ok (.putfield 16, 3) := by decide +kernel
theorem dX1_init_28 : decode cX1_init 28 = .ok (.aload_n 0, 1) := by decide +kernel
theorem dX1_init_29 : decode cX1_init 29 = .ok (.bipush 8, 2) := by decide +kernel
theorem dX1_init_31 : decode cX1_init 31 = .ok (.newarray .int, 2) := by decide +kernel
theorem dX1_init_33 : decode cX1_init 33 = .ok (.putfield 19, 3) := by decide +kernel
theorem dX1_init_36 : decode cX1_init 36 = .ok (.aload_n 0, 1) := by decide +kernel
theorem dX1_init_37 : decode cX1_init 37 = .ok (.bipush 8, 2) := by decide +kernel
theorem dX1_init_39 : decode cX1_init 39 = .ok (.newarray .int, 2) := by decide +kernel
theorem dX1_init_41 : decode cX1_init 41 = .ok (.putfield 22, 3) := by decide +kernel
theorem dX1_init_44 : decode cX1_init 44 = .ok (.aload_n 0, 1) := by decide +kernel
theorem dX1_init_45 : decode cX1_init 45 = .ok (.bipush 12, 2) := by decide +kernel
theorem dX1_init_47 : decode cX1_init 47 = .ok (.newarray .int, 2) := by decide +kernel
theorem dX1_init_49 : decode cX1_init 49 = .ok (.putfield 25, 3) := by decide +kernel
theorem dX1_init_52 : decode cX1_init 52 = .ok (.aload_n 0, 1) := by decide +kernel
theorem dX1_init_53 : decode cX1_init 53 = .ok (.bipush 12, 2) := by decide +kernel
theorem dX1_init_55 : decode cX1_init 55 = .ok (.newarray .int, 2) := by decide +kernel
theorem dX1_init_57 : decode cX1_init 57 = .ok (.putfield 28, 3) := by decide +kernel
theorem dX1_init_60 : decode cX1_init 60 = .ok (.aload_n 0, 1) := by decide +kernel
theorem dX1_init_61 : decode cX1_init 61 = .ok (.bipush 24, 2) := by decide +kernel
theorem dX1_init_63 : decode cX1_init 63 = .ok (.newarray .int, 2) := by decide +kernel
theorem dX1_init_65 : decode cX1_init 65 = .ok (.putfield 31, 3) := by decide +kernel
theorem dX1_init_68 : decode cX1_init 68 = .ok (.aload_n 0, 1) := by decide +kernel
theorem dX1_init_69 : decode cX1_init 69 = .ok (.bipush 24, 2) := by decide +kernel
theorem dX1_init_71 : decode cX1_init 71 = .ok (.newarray .int, 2) := by decide +kernel
theorem dX1_init_73 : decode cX1_init 73 = .ok (.putfield 34, 3) := by decide +kernel
theorem dX1_init_76 : decode cX1_init 76 = .ok (.aload_n 0, 1) := by decide +kernel
theorem dX1_init_77 : decode cX1_init 77 = .ok (.iconst 4, 1) := by decide +kernel
theorem dX1_init_78 : decode cX1_init 78 = .ok (.newarray .int, 2) := by decide +kernel
theorem dX1_init_80 : decode cX1_init 80 = .ok (.putfield 37, 3) := by decide +kernel
theorem dX1_init_83 : decode cX1_init 83 = .ok (.aload_n 0, 1) := by decide +kernel
theorem dX1_init_84 : decode cX1_init 84 = .ok (.bipush 24, 2) := by decide +kernel
theorem dX1_init_86 : decode cX1_init 86 = .ok (.newarray .boolean, 2) := by decide +kernel
theorem dX1_init_88 : decode cX1_init 88 = .ok (.putfield 40, 3) := by decide +kernel
theorem dX1_init_91 : decode cX1_init 91 = .ok (.return_, 1) := by decide +kernel
abbrev cX1_parameter : ByteArray := prog_3_method_6_code
def yX1_parameter : MethodName := ⟨RX1, "parameter", "(I)I"⟩
theorem dX1_parameter_0 : decode cX1_parameter 0 = .ok (.aload_n 0, 1) := by decide +kernel
theorem dX1_parameter_1 : decode cX1_parameter 1 = .ok (.iload_n 1, 1) := by decide +kernel
theorem dX1_parameter_2 : decode cX1_parameter 2 = .ok (.invokevirtual 48, 3) := by decide +kernel
theorem dX1_parameter_5 : decode cX1_parameter 5 = .ok (.ifCond .eq 7, 3) := by decide +kernel
theorem dX1_parameter_8 : decode cX1_parameter 8 = .ok (.iconst (-1), 1) := by decide +kernel
theorem dX1_parameter_9 : decode cX1_parameter 9 = .ok (.goto 10, 3) := by decide +kernel
theorem dX1_parameter_12 : decode cX1_parameter 12 = .ok (.aload_n 0, 1) := by decide +kernel
theorem dX1_parameter_13 : decode cX1_parameter 13 = .ok (.iconst 4, 1) := by decide +kernel
theorem dX1_parameter_14 : decode cX1_parameter 14 = .ok (.iload_n 1, 1) := by decide +kernel
theorem dX1_parameter_15 : decode cX1_parameter 15 = .ok (.iconst 0, 1) := by decide +kernel
theorem dX1_parameter_16 : decode cX1_parameter 16 = .ok (.invokevirtual 52, 3) := by decide +kernel
theorem dX1_parameter_19 : decode cX1_parameter 19 = .ok (.ireturn, 1) := by decide +kernel
abbrev cX1_badParameter : ByteArray := prog_3_method_3_code
def yX1_badParameter : MethodName := ⟨RX1, "badParameter", "(I)Z"⟩
theorem dX1_badParameter_0 : decode cX1_badParameter 0 = .ok (.iload_n 1, 1) := by decide +kernel
theorem dX1_badParameter_1 : decode cX1_badParameter 1 = .ok (.ifCond .lt 8, 3) := by decide +kernel
theorem dX1_badParameter_4 : decode cX1_badParameter 4 = .ok (.iload_n 1, 1) := by decide +kernel
theorem dX1_badParameter_5 : decode cX1_badParameter 5 = .ok (.iconst 3, 1) := by decide +kernel
theorem dX1_badParameter_6 : decode cX1_badParameter 6 = .ok (.if_icmp .le 7, 3) := by decide +kernel
theorem dX1_badParameter_9 : decode cX1_badParameter 9 = .ok (.iconst 1, 1) := by decide +kernel
theorem dX1_badParameter_10 : decode cX1_badParameter 10 = .ok (.goto 4, 3) := by decide +kernel
theorem dX1_badParameter_13 : decode cX1_badParameter 13 = .ok (.iconst 0, 1) := by decide +kernel
theorem dX1_badParameter_14 : decode cX1_badParameter 14 = .ok (.ireturn, 1) := by decide +kernel
abbrev cX1_make : ByteArray := prog_3_method_5_code
def yX1_make : MethodName := ⟨RX1, "make", "(III)I"⟩
theorem dX1_make_0 : decode cX1_make 0 = .ok (.aload_n 0, 1) := by decide +kernel
theorem dX1_make_1 : decode cX1_make 1 = .ok (.getfield 44, 3) := by decide +kernel
theorem dX1_make_4 : decode cX1_make 4 = .ok (.istore 4, 2) := by decide +kernel
theorem dX1_make_6 : decode cX1_make 6 = .ok (.iload 4, 2) := by decide +kernel
theorem dX1_make_8 : decode cX1_make 8 = .ok (.bipush 23, 2) := by decide +kernel
theorem dX1_make_10 : decode cX1_make 10 = .ok (.if_icmp .le 6, 3) := by decide +kernel
theorem dX1_make_13 : decode cX1_make 13 = .ok (.bipush (-2), 2) := by decide +kernel
theorem dX1_make_15 : decode cX1_make 15 = .ok (.ireturn, 1) := by decide +kernel
theorem dX1_make_16 : decode cX1_make 16 = .ok (.aload_n 0, 1) := by decide +kernel
theorem dX1_make_17 : decode cX1_make 17 = .ok (.getfield 7, 3) := by decide +kernel
theorem dX1_make_20 : decode cX1_make 20 = .ok (.iload 4, 2) := by decide +kernel
theorem dX1_make_22 : decode cX1_make 22 = .ok (.iload_n 1, 1) := by decide +kernel
theorem dX1_make_23 : decode cX1_make 23 = .ok (.iastore, 1) := by decide +kernel
theorem dX1_make_24 : decode cX1_make 24 = .ok (.aload_n 0, 1) := by decide +kernel
theorem dX1_make_25 : decode cX1_make 25 = .ok (.getfield 13, 3) := by decide +kernel
theorem dX1_make_28 : decode cX1_make 28 = .ok (.iload 4, 2) := by decide +kernel
theorem dX1_make_30 : decode cX1_make 30 = .ok (.iload_n 2, 1) := by decide +kernel
theorem dX1_make_31 : decode cX1_make 31 = .ok (.iastore, 1) := by decide +kernel
theorem dX1_make_32 : decode cX1_make 32 = .ok (.aload_n 0, 1) := by decide +kernel
theorem dX1_make_33 : decode cX1_make 33 = .ok (.getfield 16, 3) := by decide +kernel
theorem dX1_make_36 : decode cX1_make 36 = .ok (.iload 4, 2) := by decide +kernel
theorem dX1_make_38 : decode cX1_make 38 = .ok (.iload_n 3, 1) := by decide +kernel
theorem dX1_make_39 : decode cX1_make 39 = .ok (.iastore, 1) := by decide +kernel
theorem dX1_make_40 : decode cX1_make 40 = .ok (.aload_n 0, 1) := by decide +kernel
theorem dX1_make_41 : decode cX1_make 41 = .ok (.iload 4, 2) := by decide +kernel
theorem dX1_make_43 : decode cX1_make 43 = .ok (.iconst 1, 1) := by decide +kernel
theorem dX1_make_44 : decode cX1_make 44 = .ok (.iadd, 1) := by decide +kernel
theorem dX1_make_45 : decode cX1_make 45 = .ok (.putfield 44, 3) := by decide +kernel
theorem dX1_make_48 : decode cX1_make 48 = .ok (.iload 4, 2) := by decide +kernel
theorem dX1_make_50 : decode cX1_make 50 = .ok (.ireturn, 1) := by decide +kernel
abbrev cX1_constant : ByteArray := prog_3_method_7_code
def yX1_constant : MethodName := ⟨RX1, "constant", "(I)I"⟩
theorem dX1_constant_0 : decode cX1_constant 0 = .ok (.aload_n 0, 1) := by decide +kernel
theorem dX1_constant_1 : decode cX1_constant 1 = .ok (.iconst 5, 1) := by decide +kernel
theorem dX1_constant_2 : decode cX1_constant 2 = .ok (.iload_n 1, 1) := by decide +kernel
theorem dX1_constant_3 : decode cX1_constant 3 = .ok (.iconst 0, 1) := by decide +kernel
theorem dX1_constant_4 : decode cX1_constant 4 = .ok (.invokevirtual 52, 3) := by decide +kernel
theorem dX1_constant_7 : decode cX1_constant 7 = .ok (.ireturn, 1) := by decide +kernel
abbrev cX1_combine : ByteArray := prog_3_method_8_code
def yX1_combine : MethodName := ⟨RX1, "combine", "(III)I"⟩
theorem dX1_combine_0 : decode cX1_combine 0 = .ok (.iload_n 1, 1) := by decide +kernel
theorem dX1_combine_1 : decode cX1_combine 1 = .ok (.ifCond .lt 8, 3) := by decide +kernel
theorem dX1_combine_4 : decode cX1_combine 4 = .ok (.iload_n 1, 1) := by decide +kernel
theorem dX1_combine_5 : decode cX1_combine 5 = .ok (.iconst 2, 1) := by decide +kernel
theorem dX1_combine_6 : decode cX1_combine 6 = .ok (.if_icmp .le 5, 3) := by decide +kernel
theorem dX1_combine_9 : decode cX1_combine 9 = .ok (.iconst (-1), 1) := by decide +kernel
theorem dX1_combine_10 : decode cX1_combine 10 = .ok (.ireturn, 1) := by decide +kernel
theorem dX1_combine_11 : decode cX1_combine 11 = .ok (.aload_n 0, 1) := by decide +kernel
theorem dX1_combine_12 : decode cX1_combine 12 = .ok (.getfield 44, 3) := by decide +kernel
theorem dX1_combine_15 : decode cX1_combine 15 = .ok (.bipush 23, 2) := by decide +kernel
theorem dX1_combine_17 : decode cX1_combine 17 = .ok (.if_icmp .le 6, 3) := by decide +kernel
theorem dX1_combine_20 : decode cX1_combine 20 = .ok (.bipush (-2), 2) := by decide +kernel
theorem dX1_combine_22 : decode cX1_combine 22 = .ok (.ireturn, 1) := by decide +kernel
theorem dX1_combine_23 : decode cX1_combine 23 = .ok (.aload_n 0, 1) := by decide +kernel
theorem dX1_combine_24 : decode cX1_combine 24 = .ok (.iload_n 2, 1) := by decide +kernel
theorem dX1_combine_25 : decode cX1_combine 25 = .ok (.invokevirtual 56, 3) := by decide +kernel
theorem dX1_combine_28 : decode cX1_combine 28 = .ok (.ifCond .ne 11, 3) := by decide +kernel
theorem dX1_combine_31 : decode cX1_combine 31 = .ok (.aload_n 0, 1) := by decide +kernel
theorem dX1_combine_32 : decode cX1_combine 32 = .ok (.iload_n 3, 1) := by decide +kernel
theorem dX1_combine_33 : decode cX1_combine 33 = .ok (.invokevirtual 56, 3) := by decide +kernel
theorem dX1_combine_36 : decode cX1_combine 36 = .ok (.ifCond .eq 6, 3) := by decide +kernel
theorem dX1_combine_39 : decode cX1_combine 39 = .ok (.bipush (-3), 2) := by decide +kernel
theorem dX1_combine_41 : decode cX1_combine 41 = .ok (.ireturn, 1) := by decide +kernel
theorem dX1_combine_42 : decode cX1_combine 42 = .ok (.aload_n 0, 1) := by decide +kernel
theorem dX1_combine_43 : decode cX1_combine 43 = .ok (.iload_n 1, 1) := by decide +kernel
theorem dX1_combine_44 : decode cX1_combine 44 = .ok (.iload_n 2, 1) := by decide +kernel
theorem dX1_combine_45 : decode cX1_combine 45 = .ok (.iload_n 3, 1) := by decide +kernel
theorem dX1_combine_46 : decode cX1_combine 46 = .ok (.invokevirtual 52, 3) := by decide +kernel
theorem dX1_combine_49 : decode cX1_combine 49 = .ok (.ireturn, 1) := by decide +kernel
abbrev cX1_badNode : ByteArray := prog_3_method_4_code
def yX1_badNode : MethodName := ⟨RX1, "badNode", "(I)Z"⟩
theorem dX1_badNode_0 : decode cX1_badNode 0 = .ok (.iload_n 1, 1) := by decide +kernel
theorem dX1_badNode_1 : decode cX1_badNode 1 = .ok (.ifCond .lt 17, 3) := by decide +kernel
theorem dX1_badNode_4 : decode cX1_badNode 4 = .ok (.iload_n 1, 1) := by decide +kernel
theorem dX1_badNode_5 : decode cX1_badNode 5 = .ok (.aload_n 0, 1) := by decide +kernel
theorem dX1_badNode_6 : decode cX1_badNode 6 = .ok (.getfield 44, 3) := by decide +kernel
theorem dX1_badNode_9 : decode cX1_badNode 9 = .ok (.if_icmp .ge 9, 3) := by decide +kernel
theorem dX1_badNode_12 : decode cX1_badNode 12 = .ok (.iload_n 1, 1) := by decide +kernel
theorem dX1_badNode_13 : decode cX1_badNode 13 = .ok (.bipush 23, 2) := by decide +kernel
theorem dX1_badNode_15 : decode cX1_badNode 15 = .ok (.if_icmp .le 7, 3) := by decide +kernel
theorem dX1_badNode_18 : decode cX1_badNode 18 = .ok (.iconst 1, 1) := by decide +kernel
theorem dX1_badNode_19 : decode cX1_badNode 19 = .ok (.goto 4, 3) := by decide +kernel
theorem dX1_badNode_22 : decode cX1_badNode 22 = .ok (.iconst 0, 1) := by decide +kernel
theorem dX1_badNode_23 : decode cX1_badNode 23 = .ok (.ireturn, 1) := by decide +kernel
abbrev cX1_square : ByteArray := prog_3_method_9_code
def yX1_square : MethodName := ⟨RX1, "square", "(I)I"⟩
theorem dX1_square_0 : decode cX1_square 0 = .ok (.aload_n 0, 1) := by decide +kernel
theorem dX1_square_1 : decode cX1_square 1 = .ok (.getfield 44, 3) := by decide +kernel
theorem dX1_square_4 : decode cX1_square 4 = .ok (.bipush 23, 2) := by decide +kernel
theorem dX1_square_6 : decode cX1_square 6 = .ok (.if_icmp .le 6, 3) := by decide +kernel
theorem dX1_square_9 : decode cX1_square 9 = .ok (.bipush (-2), 2) := by decide +kernel
theorem dX1_square_11 : decode cX1_square 11 = .ok (.ireturn, 1) := by decide +kernel
theorem dX1_square_12 : decode cX1_square 12 = .ok (.aload_n 0, 1) := by decide +kernel
theorem dX1_square_13 : decode cX1_square 13 = .ok (.iload_n 1, 1) := by decide +kernel
theorem dX1_square_14 : decode cX1_square 14 = .ok (.invokevirtual 56, 3) := by decide +kernel
theorem dX1_square_17 : decode cX1_square 17 = .ok (.ifCond .eq 6, 3) := by decide +kernel
theorem dX1_square_20 : decode cX1_square 20 = .ok (.bipush (-3), 2) := by decide +kernel
theorem dX1_square_22 : decode cX1_square 22 = .ok (.ireturn, 1) := by decide +kernel
theorem dX1_square_23 : decode cX1_square 23 = .ok (.aload_n 0, 1) := by decide +kernel
theorem dX1_square_24 : decode cX1_square 24 = .ok (.iconst 3, 1) := by decide +kernel
theorem dX1_square_25 : decode cX1_square 25 = .ok (.iload_n 1, 1) := by decide +kernel
theorem dX1_square_26 : decode cX1_square 26 = .ok (.iload_n 1, 1) := by decide +kernel
theorem dX1_square_27 : decode cX1_square 27 = .ok (.invokevirtual 52, 3) := by decide +kernel
theorem dX1_square_30 : decode cX1_square 30 = .ok (.ireturn, 1) := by decide +kernel
abbrev cX1_term : ByteArray := prog_3_method_10_code
def yX1_term : MethodName := ⟨RX1, "term", "(II)I"⟩
theorem dX1_term_0 : decode cX1_term 0 = .ok (.aload_n 0, 1) := by decide +kernel
theorem dX1_term_1 : decode cX1_term 1 = .ok (.iload_n 1, 1) := by decide +kernel
theorem dX1_term_2 : decode cX1_term 2 = .ok (.invokevirtual 56, 3) := by decide +kernel
theorem dX1_term_5 : decode cX1_term 5 = .ok (.ifCond .eq 5, 3) := by decide +kernel
theorem dX1_term_8 : decode cX1_term 8 = .ok (.iconst (-1), 1) := by decide +kernel
theorem dX1_term_9 : decode cX1_term 9 = .ok (.ireturn, 1) := by decide +kernel
theorem dX1_term_10 : decode cX1_term 10 = .ok (.iload_n 2, 1) := by decide +kernel
theorem dX1_term_11 : decode cX1_term 11 = .ok (.bipush (-20), 2) := by decide +kernel
theorem dX1_term_13 : decode cX1_term 13 = .ok (.if_icmp .lt 9, 3) := by decide +kernel
theorem dX1_term_16 : decode cX1_term 16 = .ok (.iload_n 2, 1) := by decide +kernel
theorem dX1_term_17 : decode cX1_term 17 = .ok (.bipush 20, 2) := by decide +kernel
theorem dX1_term_19 : decode cX1_term 19 = .ok (.if_icmp .le 6, 3) := by decide +kernel
theorem dX1_term_22 : decode cX1_term 22 = .ok (.bipush (-2), 2) := by decide +kernel
theorem dX1_term_24 : decode cX1_term 24 = .ok (.ireturn, 1) := by decide +kernel
theorem dX1_term_25 : decode cX1_term 25 = .ok (.aload_n 0, 1) := by decide +kernel
theorem dX1_term_26 : decode cX1_term 26 = .ok (.getfield 59, 3) := by decide +kernel
theorem dX1_term_29 : decode cX1_term 29 = .ok (.istore_n 3, 1) := by decide +kernel
theorem dX1_term_30 : decode cX1_term 30 = .ok (.iload_n 3, 1) := by decide +kernel
theorem dX1_term_31 : decode cX1_term 31 = .ok (.bipush 7, 2) := by decide +kernel
theorem dX1_term_33 : decode cX1_term 33 = .ok (.if_icmp .le 6, 3) := by decide +kernel
theorem dX1_term_36 : decode cX1_term 36 = .ok (.bipush (-3), 2) := by decide +kernel
theorem dX1_term_38 : decode cX1_term 38 = .ok (.ireturn, 1) := by decide +kernel
theorem dX1_term_39 : decode cX1_term 39 = .ok (.aload_n 0, 1) := by decide +kernel
theorem dX1_term_40 : decode cX1_term 40 = .ok (.getfield 19, 3) := by decide +kernel
theorem dX1_term_43 : decode cX1_term 43 = .ok (.iload_n 3, 1) := by decide +kernel
theorem dX1_term_44 : decode cX1_term 44 = .ok (.iload_n 1, 1) := by decide +kernel
theorem dX1_term_45 : decode cX1_term 45 = .ok (.iastore, 1) := by decide +kernel
theorem dX1_term_46 : decode cX1_term 46 = .ok (.aload_n 0, 1) := by decide +kernel
theorem dX1_term_47 : decode cX1_term 47 = .ok (.getfield 22, 3) := by decide +kernel
theorem dX1_term_50 : decode cX1_term 50 = .ok (.iload_n 3, 1) := by decide +kernel
theorem dX1_term_51 : decode cX1_term 51 = .ok (.iload_n 2, 1) := by decide +kernel
theorem dX1_term_52 : decode cX1_term 52 = .ok (.iastore, 1) := by decide +kernel
theorem dX1_term_53 : decode cX1_term 53 = .ok (.aload_n 0, 1) := by decide +kernel
theorem dX1_term_54 : decode cX1_term 54 = .ok (.iload_n 3, 1) := by decide +kernel
theorem dX1_term_55 : decode cX1_term 55 = .ok (.iconst 1, 1) := by decide +kernel
theorem dX1_term_56 : decode cX1_term 56 = .ok (.iadd, 1) := by decide +kernel
theorem dX1_term_57 : decode cX1_term 57 = .ok (.putfield 59, 3) := by decide +kernel
theorem dX1_term_60 : decode cX1_term 60 = .ok (.aload_n 0, 1) := by decide +kernel
theorem dX1_term_61 : decode cX1_term 61 = .ok (.getfield 59, 3) := by decide +kernel
theorem dX1_term_64 : decode cX1_term 64 = .ok (.ireturn, 1) := by decide +kernel
abbrev cX1_clear : ByteArray := prog_3_method_11_code
def yX1_clear : MethodName := ⟨RX1, "clear", "()I"⟩
theorem dX1_clear_0 : decode cX1_clear 0 = .ok (.aload_n 0, 1) := by decide +kernel
theorem dX1_clear_1 : decode cX1_clear 1 = .ok (.getfield 44, 3) := by decide +kernel
theorem dX1_clear_4 : decode cX1_clear 4 = .ok (.istore_n 1, 1) := by decide +kernel
theorem dX1_clear_5 : decode cX1_clear 5 = .ok (.aload_n 0, 1) := by decide +kernel
theorem dX1_clear_6 : decode cX1_clear 6 = .ok (.iconst 0, 1) := by decide +kernel
theorem dX1_clear_7 : decode cX1_clear 7 = .ok (.putfield 44, 3) := by decide +kernel
theorem dX1_clear_10 : decode cX1_clear 10 = .ok (.aload_n 0, 1) := by decide +kernel
theorem dX1_clear_11 : decode cX1_clear 11 = .ok (.iconst 0, 1) := by decide +kernel
theorem dX1_clear_12 : decode cX1_clear 12 = .ok (.putfield 59, 3) := by decide +kernel
theorem dX1_clear_15 : decode cX1_clear 15 = .ok (.iload_n 1, 1) := by decide +kernel
theorem dX1_clear_16 : decode cX1_clear 16 = .ok (.ireturn, 1) := by decide +kernel
abbrev cX1_nodes : ByteArray := prog_3_method_12_code
def yX1_nodes : MethodName := ⟨RX1, "nodes", "()I"⟩
theorem dX1_nodes_0 : decode cX1_nodes 0 = .ok (.aload_n 0, 1) := by decide +kernel
theorem dX1_nodes_1 : decode cX1_nodes 1 = .ok (.getfield 44, 3) := by decide +kernel
theorem dX1_nodes_4 : decode cX1_nodes 4 = .ok (.ireturn, 1) := by decide +kernel
abbrev cX1_terms : ByteArray := prog_3_method_13_code
def yX1_terms : MethodName := ⟨RX1, "terms", "()I"⟩
theorem dX1_terms_0 : decode cX1_terms 0 = .ok (.aload_n 0, 1) := by decide +kernel
theorem dX1_terms_1 : decode cX1_terms 1 = .ok (.getfield 59, 3) := by decide +kernel
theorem dX1_terms_4 : decode cX1_terms 4 = .ok (.ireturn, 1) := by decide +kernel
abbrev cX1_place : ByteArray := prog_3_method_14_code
def yX1_place : MethodName := ⟨RX1, "place", "(III)I"⟩
theorem dX1_place_0 : decode cX1_place 0 = .ok (.aload_n 0, 1) := by decide +kernel
theorem dX1_place_1 : decode cX1_place 1 = .ok (.iload_n 1, 1) := by decide +kernel
theorem dX1_place_2 : decode cX1_place 2 = .ok (.invokevirtual 62, 3) := by decide +kernel
theorem dX1_place_5 : decode cX1_place 5 = .ok (.ifCond .eq 5, 3) := by decide +kernel
theorem dX1_place_8 : decode cX1_place 8 = .ok (.iconst (-1), 1) := by decide +kernel
theorem dX1_place_9 : decode cX1_place 9 = .ok (.ireturn, 1) := by decide +kernel
theorem dX1_place_10 : decode cX1_place 10 = .ok (.aload_n 0, 1) := by decide +kernel
theorem dX1_place_11 : decode cX1_place 11 = .ok (.iload_n 2, 1) := by decide +kernel
theorem dX1_place_12 : decode cX1_place 12 = .ok (.invokevirtual 48, 3) := by decide +kernel
theorem dX1_place_15 : decode cX1_place 15 = .ok (.ifCond .eq 6, 3) := by decide +kernel
theorem dX1_place_18 : decode cX1_place 18 = .ok (.bipush (-2), 2) := by decide +kernel
theorem dX1_place_20 : decode cX1_place 20 = .ok (.ireturn, 1) := by decide +kernel
theorem dX1_place_21 : decode cX1_place 21 = .ok (.aload_n 0, 1) := by decide +kernel
theorem dX1_place_22 : decode cX1_place 22 = .ok (.getfield 25, 3) := by decide +kernel
theorem dX1_place_25 : decode cX1_place 25 = .ok (.iconst 4, 1) := by decide +kernel
theorem dX1_place_26 : decode cX1_place 26 = .ok (.iload_n 1, 1) := by decide +kernel
theorem dX1_place_27 : decode cX1_place 27 = .ok (.imul, 1) := by decide +kernel
theorem dX1_place_28 : decode cX1_place 28 = .ok (.iload_n 2, 1) := by decide +kernel
theorem dX1_place_29 : decode cX1_place 29 = .ok (.iadd, 1) := by decide +kernel
theorem dX1_place_30 : decode cX1_place 30 = .ok (.iload_n 3, 1) := by decide +kernel
theorem dX1_place_31 : decode cX1_place 31 = .ok (.iastore, 1) := by decide +kernel
theorem dX1_place_32 : decode cX1_place 32 = .ok (.iconst 0, 1) := by decide +kernel
theorem dX1_place_33 : decode cX1_place 33 = .ok (.ireturn, 1) := by decide +kernel
abbrev cX1_badChain : ByteArray := prog_3_method_2_code
def yX1_badChain : MethodName := ⟨RX1, "badChain", "(I)Z"⟩
theorem dX1_badChain_0 : decode cX1_badChain 0 = .ok (.iload_n 1, 1) := by decide +kernel
theorem dX1_badChain_1 : decode cX1_badChain 1 = .ok (.ifCond .lt 8, 3) := by decide +kernel
theorem dX1_badChain_4 : decode cX1_badChain 4 = .ok (.iload_n 1, 1) := by decide +kernel
theorem dX1_badChain_5 : decode cX1_badChain 5 = .ok (.iconst 2, 1) := by decide +kernel
theorem dX1_badChain_6 : decode cX1_badChain 6 = .ok (.if_icmp .le 7, 3) := by decide +kernel
theorem dX1_badChain_9 : decode cX1_badChain 9 = .ok (.iconst 1, 1) := by decide +kernel
theorem dX1_badChain_10 : decode cX1_badChain 10 = .ok (.goto 4, 3) := by decide +kernel
theorem dX1_badChain_13 : decode cX1_badChain 13 = .ok (.iconst 0, 1) := by decide +kernel
theorem dX1_badChain_14 : decode cX1_badChain 14 = .ok (.ireturn, 1) := by decide +kernel
abbrev cX1_push : ByteArray := prog_3_method_15_code
def yX1_push : MethodName := ⟨RX1, "push", "(III)I"⟩
theorem dX1_push_0 : decode cX1_push 0 = .ok (.aload_n 0, 1) := by decide +kernel
theorem dX1_push_1 : decode cX1_push 1 = .ok (.iload_n 1, 1) := by decide +kernel
theorem dX1_push_2 : decode cX1_push 2 = .ok (.invokevirtual 62, 3) := by decide +kernel
theorem dX1_push_5 : decode cX1_push 5 = .ok (.ifCond .eq 5, 3) := by decide +kernel
theorem dX1_push_8 : decode cX1_push 8 = .ok (.iconst (-1), 1) := by decide +kernel
theorem dX1_push_9 : decode cX1_push 9 = .ok (.ireturn, 1) := by decide +kernel
theorem dX1_push_10 : decode cX1_push 10 = .ok (.aload_n 0, 1) := by decide +kernel
theorem dX1_push_11 : decode cX1_push 11 = .ok (.iload_n 2, 1) := by decide +kernel
theorem dX1_push_12 : decode cX1_push 12 = .ok (.invokevirtual 48, 3) := by decide +kernel
theorem dX1_push_15 : decode cX1_push 15 = .ok (.ifCond .eq 6, 3) := by decide +kernel
theorem dX1_push_18 : decode cX1_push 18 = .ok (.bipush (-2), 2) := by decide +kernel
theorem dX1_push_20 : decode cX1_push 20 = .ok (.ireturn, 1) := by decide +kernel
theorem dX1_push_21 : decode cX1_push 21 = .ok (.aload_n 0, 1) := by decide +kernel
theorem dX1_push_22 : decode cX1_push 22 = .ok (.getfield 28, 3) := by decide +kernel
theorem dX1_push_25 : decode cX1_push 25 = .ok (.iconst 4, 1) := by decide +kernel
theorem dX1_push_26 : decode cX1_push 26 = .ok (.iload_n 1, 1) := by decide +kernel
theorem dX1_push_27 : decode cX1_push 27 = .ok (.imul, 1) := by decide +kernel
theorem dX1_push_28 : decode cX1_push 28 = .ok (.iload_n 2, 1) := by decide +kernel
theorem dX1_push_29 : decode cX1_push 29 = .ok (.iadd, 1) := by decide +kernel
theorem dX1_push_30 : decode cX1_push 30 = .ok (.iload_n 3, 1) := by decide +kernel
theorem dX1_push_31 : decode cX1_push 31 = .ok (.iastore, 1) := by decide +kernel
theorem dX1_push_32 : decode cX1_push 32 = .ok (.iconst 0, 1) := by decide +kernel
theorem dX1_push_33 : decode cX1_push 33 = .ok (.ireturn, 1) := by decide +kernel
abbrev cX1_shift : ByteArray := prog_3_method_16_code
def yX1_shift : MethodName := ⟨RX1, "shift", "(I)I"⟩
theorem dX1_shift_0 : decode cX1_shift 0 = .ok (.iload_n 1, 1) := by decide +kernel
theorem dX1_shift_1 : decode cX1_shift 1 = .ok (.ifCond .lt 9, 3) := by decide +kernel
theorem dX1_shift_4 : decode cX1_shift 4 = .ok (.iload_n 1, 1) := by decide +kernel
theorem dX1_shift_5 : decode cX1_shift 5 = .ok (.bipush 20, 2) := by decide +kernel
theorem dX1_shift_7 : decode cX1_shift 7 = .ok (.if_icmp .le 5, 3) := by decide +kernel
theorem dX1_shift_10 : decode cX1_shift 10 = .ok (.iconst (-1), 1) := by decide +kernel
theorem dX1_shift_11 : decode cX1_shift 11 = .ok (.ireturn, 1) := by decide +kernel
theorem dX1_shift_12 : decode cX1_shift 12 = .ok (.aload_n 0, 1) := by decide +kernel
theorem dX1_shift_13 : decode cX1_shift 13 = .ok (.getfield 65, 3) := by decide +kernel
theorem dX1_shift_16 : decode cX1_shift 16 = .ok (.istore_n 2, 1) := by decide +kernel
theorem dX1_shift_17 : decode cX1_shift 17 = .ok (.aload_n 0, 1) := by decide +kernel
theorem dX1_shift_18 : decode cX1_shift 18 = .ok (.iload_n 1, 1) := by decide +kernel
theorem dX1_shift_19 : decode cX1_shift 19 = .ok (.putfield 65, 3) := by decide +kernel
theorem dX1_shift_22 : decode cX1_shift 22 = .ok (.iload_n 2, 1) := by decide +kernel
theorem dX1_shift_23 : decode cX1_shift 23 = .ok (.ireturn, 1) := by decide +kernel
abbrev cX1_position : ByteArray := prog_3_method_17_code
def yX1_position : MethodName := ⟨RX1, "position", "(II)I"⟩
theorem dX1_position_0 : decode cX1_position 0 = .ok (.aload_n 0, 1) := by decide +kernel
theorem dX1_position_1 : decode cX1_position 1 = .ok (.iload_n 1, 1) := by decide +kernel
theorem dX1_position_2 : decode cX1_position 2 = .ok (.invokevirtual 62, 3) := by decide +kernel
theorem dX1_position_5 : decode cX1_position 5 = .ok (.ifCond .ne 11, 3) := by decide +kernel
theorem dX1_position_8 : decode cX1_position 8 = .ok (.aload_n 0, 1) := by decide +kernel
theorem dX1_position_9 : decode cX1_position 9 = .ok (.iload_n 2, 1) := by decide +kernel
theorem dX1_position_10 : decode cX1_position 10 = .ok (.invokevirtual 48, 3) := by decide +kernel
theorem dX1_position_13 : decode cX1_position 13 = .ok (.ifCond .eq 7, 3) := by decide +kernel
theorem dX1_position_16 : decode cX1_position 16 = .ok (.iconst 0, 1) := by decide +kernel
theorem dX1_position_17 : decode cX1_position 17 = .ok (.goto 13, 3) := by decide +kernel
theorem dX1_position_20 : decode cX1_position 20 = .ok (.aload_n 0, 1) := by decide +kernel
theorem dX1_position_21 : decode cX1_position 21 = .ok (.getfield 25, 3) := by decide +kernel
theorem dX1_position_24 : decode cX1_position 24 = .ok (.iconst 4, 1) := by decide +kernel
theorem dX1_position_25 : decode cX1_position 25 = .ok (.iload_n 1, 1) := by decide +kernel
theorem dX1_position_26 : decode cX1_position 26 = .ok (.imul, 1) := by decide +kernel
theorem dX1_position_27 : decode cX1_position 27 = .ok (.iload_n 2, 1) := by decide +kernel
theorem dX1_position_28 : decode cX1_position 28 = .ok (.iadd, 1) := by decide +kernel
theorem dX1_position_29 : decode cX1_position 29 = .ok (.iaload, 1) := by decide +kernel
theorem dX1_position_30 : decode cX1_position 30 = .ok (.ireturn, 1) := by decide +kernel
abbrev cX1_momentum : ByteArray := prog_3_method_18_code
def yX1_momentum : MethodName := ⟨RX1, "momentum", "(II)I"⟩
theorem dX1_momentum_0 : decode cX1_momentum 0 = .ok (.aload_n 0, 1) := by decide +kernel
theorem dX1_momentum_1 : decode cX1_momentum 1 = .ok (.iload_n 1, 1) := by decide +kernel
theorem dX1_momentum_2 : decode cX1_momentum 2 = .ok (.invokevirtual 62, 3) := by decide +kernel
theorem dX1_momentum_5 : decode cX1_momentum 5 = .ok (.ifCond .ne 11, 3) := by decide +kernel
theorem dX1_momentum_8 : decode cX1_momentum 8 = .ok (.aload_n 0, 1) := by decide +kernel
theorem dX1_momentum_9 : decode cX1_momentum 9 = .ok (.iload_n 2, 1) := by decide +kernel
theorem dX1_momentum_10 : decode cX1_momentum 10 = .ok (.invokevirtual 48, 3) := by decide +kernel
theorem dX1_momentum_13 : decode cX1_momentum 13 = .ok (.ifCond .eq 7, 3) := by decide +kernel
theorem dX1_momentum_16 : decode cX1_momentum 16 = .ok (.iconst 0, 1) := by decide +kernel
theorem dX1_momentum_17 : decode cX1_momentum 17 = .ok (.goto 13, 3) := by decide +kernel
theorem dX1_momentum_20 : decode cX1_momentum 20 = .ok (.aload_n 0, 1) := by decide +kernel
theorem dX1_momentum_21 : decode cX1_momentum 21 = .ok (.getfield 28, 3) := by decide +kernel
theorem dX1_momentum_24 : decode cX1_momentum 24 = .ok (.iconst 4, 1) := by decide +kernel
theorem dX1_momentum_25 : decode cX1_momentum 25 = .ok (.iload_n 1, 1) := by decide +kernel
theorem dX1_momentum_26 : decode cX1_momentum 26 = .ok (.imul, 1) := by decide +kernel
theorem dX1_momentum_27 : decode cX1_momentum 27 = .ok (.iload_n 2, 1) := by decide +kernel
theorem dX1_momentum_28 : decode cX1_momentum 28 = .ok (.iadd, 1) := by decide +kernel
theorem dX1_momentum_29 : decode cX1_momentum 29 = .ok (.iaload, 1) := by decide +kernel
theorem dX1_momentum_30 : decode cX1_momentum 30 = .ok (.ireturn, 1) := by decide +kernel
abbrev cX1_valueOf : ByteArray := prog_3_method_22_code
def yX1_valueOf : MethodName := ⟨RX1, "valueOf", "(II)I"⟩
theorem dX1_valueOf_0 : decode cX1_valueOf 0 = .ok (.aload_n 0, 1) := by decide +kernel
theorem dX1_valueOf_1 : decode cX1_valueOf 1 = .ok (.iload_n 1, 1) := by decide +kernel
theorem dX1_valueOf_2 : decode cX1_valueOf 2 = .ok (.invokevirtual 62, 3) := by decide +kernel
theorem dX1_valueOf_5 : decode cX1_valueOf 5 = .ok (.ifCond .ne 11, 3) := by decide +kernel
theorem dX1_valueOf_8 : decode cX1_valueOf 8 = .ok (.aload_n 0, 1) := by decide +kernel
theorem dX1_valueOf_9 : decode cX1_valueOf 9 = .ok (.iload_n 2, 1) := by decide +kernel
theorem dX1_valueOf_10 : decode cX1_valueOf 10 = .ok (.invokevirtual 56, 3) := by decide +kernel
theorem dX1_valueOf_13 : decode cX1_valueOf 13 = .ok (.ifCond .eq 5, 3) := by decide +kernel
theorem dX1_valueOf_16 : decode cX1_valueOf 16 = .ok (.iconst 0, 1) := by decide +kernel
theorem dX1_valueOf_17 : decode cX1_valueOf 17 = .ok (.ireturn, 1) := by decide +kernel
theorem dX1_valueOf_18 : decode cX1_valueOf 18 = .ok (.aload_n 0, 1) := by decide +kernel
theorem dX1_valueOf_19 : decode cX1_valueOf 19 = .ok (.iload_n 1, 1) := by decide +kernel
theorem dX1_valueOf_20 : decode cX1_valueOf 20 = .ok (.iconst 0, 1) := by decide +kernel
theorem dX1_valueOf_21 : decode cX1_valueOf 21 = .ok (.invokevirtual 68, 3) := by decide +kernel
theorem dX1_valueOf_24 : decode cX1_valueOf 24 = .ok (.aload_n 0, 1) := by decide +kernel
theorem dX1_valueOf_25 : decode cX1_valueOf 25 = .ok (.getfield 31, 3) := by decide +kernel
theorem dX1_valueOf_28 : decode cX1_valueOf 28 = .ok (.iload_n 2, 1) := by decide +kernel
theorem dX1_valueOf_29 : decode cX1_valueOf 29 = .ok (.iaload, 1) := by decide +kernel
theorem dX1_valueOf_30 : decode cX1_valueOf 30 = .ok (.ireturn, 1) := by decide +kernel
end
section
set_option maxRecDepth 100000
abbrev cX1_work : ByteArray := prog_3_method_19_code
def yX1_work : MethodName := ⟨RX1, "work", "(II)V"⟩
theorem dX1_work_0 : decode cX1_work 0 = .ok (.iconst 0, 1) := by decide +kernel
theorem dX1_work_1 : decode cX1_work 1 = .ok (.istore_n 3, 1) := by decide +kernel
theorem dX1_work_2 : decode cX1_work 2 = .ok (.iload_n 3, 1) := by decide +kernel
theorem dX1_work_3 : decode cX1_work 3 = .ok (.aload_n 0, 1) := by decide +kernel
theorem dX1_work_4 : decode cX1_work 4 = .ok (.getfield 44, 3) := by decide +kernel
theorem dX1_work_7 : decode cX1_work 7 = .ok (.if_icmp .ge 273, 3) := by decide +kernel
theorem dX1_work_10 : decode cX1_work 10 = .ok (.iload_n 3, 1) := by decide +kernel
theorem dX1_work_11 : decode cX1_work 11 = .ok (.bipush 24, 2) := by decide +kernel
theorem dX1_work_13 : decode cX1_work 13 = .ok (.if_icmp .ge 267, 3) := by decide +kernel
theorem dX1_work_16 : decode cX1_work 16 = .ok (.aload_n 0, 1) := by decide +kernel
theorem dX1_work_17 : decode cX1_work 17 = .ok (.getfield 13, 3) := by decide +kernel
theorem dX1_work_20 : decode cX1_work 20 = .ok (.iload_n 3, 1) := by decide +kernel
theorem dX1_work_21 : decode cX1_work 21 = .ok (.iaload, 1) := by decide +kernel
theorem dX1_work_22 : decode cX1_work 22 = .ok (.istore 4, 2) := by decide +kernel
theorem dX1_work_24 : decode cX1_work 24 = .ok (.aload_n 0, 1) := by decide +kernel
theorem dX1_work_25 : decode cX1_work 25 = .ok (.getfield 16, 3) := by decide +kernel
theorem dX1_work_28 : decode cX1_work 28 = .ok (.iload_n 3, 1) := by decide +kernel
theorem dX1_work_29 : decode cX1_work 29 = .ok (.iaload, 1) := by decide +kernel
theorem dX1_work_30 : decode cX1_work 30 = .ok (.istore 5, 2) := by decide +kernel
theorem dX1_work_32 : decode cX1_work 32 = .ok (.aload_n 0, 1) := by decide +kernel
theorem dX1_work_33 : decode cX1_work 33 = .ok (.getfield 7, 3) := by decide +kernel
theorem dX1_work_36 : decode cX1_work 36 = .ok (.iload_n 3, 1) := by decide +kernel
theorem dX1_work_37 : decode cX1_work 37 = .ok (.iaload, 1) := by decide +kernel
theorem dX1_work_38 : decode cX1_work 38 = .ok (.iconst 4, 1) := by decide +kernel
theorem dX1_work_39 : decode cX1_work 39 = .ok (.if_icmp .ne 40, 3) := by decide +kernel
theorem dX1_work_42 : decode cX1_work 42 = .ok (.aload_n 0, 1) := by decide +kernel
theorem dX1_work_43 : decode cX1_work 43 = .ok (.getfield 31, 3) := by decide +kernel
theorem dX1_work_46 : decode cX1_work 46 = .ok (.iload_n 3, 1) := by decide +kernel
theorem dX1_work_47 : decode cX1_work 47 = .ok (.aload_n 0, 1) := by decide +kernel
theorem dX1_work_48 : decode cX1_work 48 = .ok (.getfield 25, 3) := by decide +kernel
theorem dX1_work_51 : decode cX1_work 51 = .ok (.iconst 4, 1) := by decide +kernel
theorem dX1_work_52 : decode cX1_work 52 = .ok (.iload_n 1, 1) := by decide +kernel
theorem dX1_work_53 : decode cX1_work 53 = .ok (.imul, 1) := by decide +kernel
theorem dX1_work_54 : decode cX1_work 54 = .ok (.iload 4, 2) := by decide +kernel
theorem dX1_work_56 : decode cX1_work 56 = .ok (.iadd, 1) := by decide +kernel
theorem dX1_work_57 : decode cX1_work 57 = .ok (.iaload, 1) := by decide +kernel
theorem dX1_work_58 : decode cX1_work 58 = .ok (.iastore, 1) := by decide +kernel
theorem dX1_work_59 : decode cX1_work 59 = .ok (.aload_n 0, 1) := by decide +kernel
theorem dX1_work_60 : decode cX1_work 60 = .ok (.getfield 34, 3) := by decide +kernel
theorem dX1_work_63 : decode cX1_work 63 = .ok (.iload_n 3, 1) := by decide +kernel
theorem dX1_work_64 : decode cX1_work 64 = .ok (.iload 4, 2) := by decide +kernel
theorem dX1_work_66 : decode cX1_work 66 = .ok (.iload_n 2, 1) := by decide +kernel
theorem dX1_work_67 : decode cX1_work 67 = .ok (.if_icmp .ne 7, 3) := by decide +kernel
theorem dX1_work_70 : decode cX1_work 70 = .ok (.iconst 1, 1) := by decide +kernel
theorem dX1_work_71 : decode cX1_work 71 = .ok (.goto 4, 3) := by decide +kernel
theorem dX1_work_74 : decode cX1_work 74 = .ok (.iconst 0, 1) := by decide +kernel
theorem dX1_work_75 : decode cX1_work 75 = .ok (.iastore, 1) := by decide +kernel
theorem dX1_work_76 : decode cX1_work 76 = .ok (.goto 198, 3) := by decide +kernel
theorem dX1_work_79 : decode cX1_work 79 = .ok (.aload_n 0, 1) := by decide +kernel
theorem dX1_work_80 : decode cX1_work 80 = .ok (.getfield 7, 3) := by decide +kernel
theorem dX1_work_83 : decode cX1_work 83 = .ok (.iload_n 3, 1) := by decide +kernel
theorem dX1_work_84 : decode cX1_work 84 = .ok (.iaload, 1) := by decide +kernel
theorem dX1_work_85 : decode cX1_work 85 = .ok (.iconst 5, 1) := by decide +kernel
theorem dX1_work_86 : decode cX1_work 86 = .ok (.if_icmp .ne 21, 3) := by decide +kernel
theorem dX1_work_89 : decode cX1_work 89 = .ok (.aload_n 0, 1) := by decide +kernel
theorem dX1_work_90 : decode cX1_work 90 = .ok (.getfield 31, 3) := by decide +kernel
theorem dX1_work_93 : decode cX1_work 93 = .ok (.iload_n 3, 1) := by decide +kernel
theorem dX1_work_94 : decode cX1_work 94 = .ok (.iload 4, 2) := by decide +kernel
theorem dX1_work_96 : decode cX1_work 96 = .ok (.iastore, 1) := by decide +kernel
theorem dX1_work_97 : decode cX1_work 97 = .ok (.aload_n 0, 1) := by decide +kernel
theorem dX1_work_98 : decode cX1_work 98 = .ok (.getfield 34, 3) := by decide +kernel
theorem dX1_work_101 : decode cX1_work 101 = .ok (.iload_n 3, 1) := by decide +kernel
theorem dX1_work_102 : decode cX1_work 102 = .ok (.iconst 0, 1) := by decide +kernel
theorem dX1_work_103 : decode cX1_work 103 = .ok (.iastore, 1) := by decide +kernel
theorem dX1_work_104 : decode cX1_work 104 = .ok (.goto 170, 3) := by decide +kernel
theorem dX1_work_107 : decode cX1_work 107 = .ok (.aload_n 0, 1) := by decide +kernel
theorem dX1_work_108 : decode cX1_work 108 = .ok (.getfield 7, 3) := by decide +kernel
theorem dX1_work_111 : decode cX1_work 111 = .ok (.iload_n 3, 1) := by decide +kernel
theorem dX1_work_112 : decode cX1_work 112 = .ok (.iaload, 1) := by decide +kernel
theorem dX1_work_113 : decode cX1_work 113 = .ok (.ifCond .ne 48, 3) := by decide +kernel
theorem dX1_work_116 : decode cX1_work 116 = .ok (.aload_n 0, 1) := by decide +kernel
theorem dX1_work_117 : decode cX1_work 117 = .ok (.getfield 31, 3) := by decide +kernel
theorem dX1_work_120 : decode cX1_work 120 = .ok (.iload_n 3, 1) := by decide +kernel
theorem dX1_work_121 : decode cX1_work 121 = .ok (.aload_n 0, 1) := by decide +kernel
theorem dX1_work_122 : decode cX1_work 122 = .ok (.getfield 31, 3) := by decide +kernel
theorem dX1_work_125 : decode cX1_work 125 = .ok (.iload 4, 2) := by decide +kernel
theorem dX1_work_127 : decode cX1_work 127 = .ok (.iaload, 1) := by decide +kernel
theorem dX1_work_128 : decode cX1_work 128 = .ok (.aload_n 0, 1) := by decide +kernel
theorem dX1_work_129 : decode cX1_work 129 = .ok (.getfield 31, 3) := by decide +kernel
theorem dX1_work_132 : decode cX1_work 132 = .ok (.iload 5, 2) := by decide +kernel
theorem dX1_work_134 : decode cX1_work 134 = .ok (.iaload, 1) := by decide +kernel
theorem dX1_work_135 : decode cX1_work 135 = .ok (.iadd, 1) := by decide +kernel
theorem dX1_work_136 : decode cX1_work 136 = .ok (.iastore, 1) := by decide +kernel
theorem dX1_work_137 : decode cX1_work 137 = .ok (.aload_n 0, 1) := by decide +kernel
theorem dX1_work_138 : decode cX1_work 138 = .ok (.getfield 34, 3) := by decide +kernel
theorem dX1_work_141 : decode cX1_work 141 = .ok (.iload_n 3, 1) := by decide +kernel
theorem dX1_work_142 : decode cX1_work 142 = .ok (.aload_n 0, 1) := by decide +kernel
theorem dX1_work_143 : decode cX1_work 143 = .ok (.getfield 34, 3) := by decide +kernel
theorem dX1_work_146 : decode cX1_work 146 = .ok (.iload 4, 2) := by decide +kernel
theorem dX1_work_148 : decode cX1_work 148 = .ok (.iaload, 1) := by decide +kernel
theorem dX1_work_149 : decode cX1_work 149 = .ok (.aload_n 0, 1) := by decide +kernel
theorem dX1_work_150 : decode cX1_work 150 = .ok (.getfield 34, 3) := by decide +kernel
theorem dX1_work_153 : decode cX1_work 153 = .ok (.iload 5, 2) := by decide +kernel
theorem dX1_work_155 : decode cX1_work 155 = .ok (.iaload, 1) := by decide +kernel
theorem dX1_work_156 : decode cX1_work 156 = .ok (.iadd, 1) := by decide +kernel
theorem dX1_work_157 : decode cX1_work 157 = .ok (.iastore, 1) := by decide +kernel
theorem dX1_work_158 : decode cX1_work 158 = .ok (.goto 116, 3) := by decide +kernel
theorem dX1_work_161 : decode cX1_work 161 = .ok (.aload_n 0, 1) := by decide +kernel
theorem dX1_work_162 : decode cX1_work 162 = .ok (.getfield 7, 3) := by decide +kernel
theorem dX1_work_165 : decode cX1_work 165 = .ok (.iload_n 3, 1) := by decide +kernel
theorem dX1_work_166 : decode cX1_work 166 = .ok (.iaload, 1) := by decide +kernel
theorem dX1_work_167 : decode cX1_work 167 = .ok (.iconst 1, 1) := by decide +kernel
theorem dX1_work_168 : decode cX1_work 168 = .ok (.if_icmp .ne 48, 3) := by decide +kernel
theorem dX1_work_171 : decode cX1_work 171 = .ok (.aload_n 0, 1) := by decide +kernel
theorem dX1_work_172 : decode cX1_work 172 = .ok (.getfield 31, 3) := by decide +kernel
theorem dX1_work_175 : decode cX1_work 175 = .ok (.iload_n 3, 1) := by decide +kernel
theorem dX1_work_176 : decode cX1_work 176 = .ok (.aload_n 0, 1) := by decide +kernel
theorem dX1_work_177 : decode cX1_work 177 = .ok (.getfield 31, 3) := by decide +kernel
theorem dX1_work_180 : decode cX1_work 180 = .ok (.iload 4, 2) := by decide +kernel
theorem dX1_work_182 : decode cX1_work 182 = .ok (.iaload, 1) := by decide +kernel
theorem dX1_work_183 : decode cX1_work 183 = .ok (.aload_n 0, 1) := by decide +kernel
theorem dX1_work_184 : decode cX1_work 184 = .ok (.getfield 31, 3) := by decide +kernel
theorem dX1_work_187 : decode cX1_work 187 = .ok (.iload 5, 2) := by decide +kernel
theorem dX1_work_189 : decode cX1_work 189 = .ok (.iaload, 1) := by decide +kernel
theorem dX1_work_190 : decode cX1_work 190 = .ok (.isub, 1) := by decide +kernel
theorem dX1_work_191 : decode cX1_work 191 = .ok (.iastore, 1) := by decide +kernel
theorem dX1_work_192 : decode cX1_work 192 = .ok (.aload_n 0, 1) := by decide +kernel
theorem dX1_work_193 : decode cX1_work 193 = .ok (.getfield 34, 3) := by decide +kernel
theorem dX1_work_196 : decode cX1_work 196 = .ok (.iload_n 3, 1) := by decide +kernel
theorem dX1_work_197 : decode cX1_work 197 = .ok (.aload_n 0, 1) := by decide +kernel
theorem dX1_work_198 : decode cX1_work 198 = .ok (.getfield 34, 3) := by decide +kernel
theorem dX1_work_201 : decode cX1_work 201 = .ok (.iload 4, 2) := by decide +kernel
theorem dX1_work_203 : decode cX1_work 203 = .ok (.iaload, 1) := by decide +kernel
theorem dX1_work_204 : decode cX1_work 204 = .ok (.aload_n 0, 1) := by decide +kernel
theorem dX1_work_205 : decode cX1_work 205 = .ok (.getfield 34, 3) := by decide +kernel
theorem dX1_work_208 : decode cX1_work 208 = .ok (.iload 5, 2) := by decide +kernel
theorem dX1_work_210 : decode cX1_work 210 = .ok (.iaload, 1) := by decide +kernel
theorem dX1_work_211 : decode cX1_work 211 = .ok (.isub, 1) := by decide +kernel
theorem dX1_work_212 : decode cX1_work 212 = .ok (.iastore, 1) := by decide +kernel
theorem dX1_work_213 : decode cX1_work 213 = .ok (.goto 61, 3) := by decide +kernel
theorem dX1_work_216 : decode cX1_work 216 = .ok (.aload_n 0, 1) := by decide +kernel
theorem dX1_work_217 : decode cX1_work 217 = .ok (.getfield 31, 3) := by decide +kernel
theorem dX1_work_220 : decode cX1_work 220 = .ok (.iload_n 3, 1) := by decide +kernel
theorem dX1_work_221 : decode cX1_work 221 = .ok (.aload_n 0, 1) := by decide +kernel
theorem dX1_work_222 : decode cX1_work 222 = .ok (.getfield 31, 3) := by decide +kernel
theorem dX1_work_225 : decode cX1_work 225 = .ok (.iload 4, 2) := by decide +kernel
theorem dX1_work_227 : decode cX1_work 227 = .ok (.iaload, 1) := by decide +kernel
theorem dX1_work_228 : decode cX1_work 228 = .ok (.aload_n 0, 1) := by decide +kernel
theorem dX1_work_229 : decode cX1_work 229 = .ok (.getfield 31, 3) := by decide +kernel
theorem dX1_work_232 : decode cX1_work 232 = .ok (.iload 5, 2) := by decide +kernel
theorem dX1_work_234 : decode cX1_work 234 = .ok (.iaload, 1) := by decide +kernel
theorem dX1_work_235 : decode cX1_work 235 = .ok (.imul, 1) := by decide +kernel
theorem dX1_work_236 : decode cX1_work 236 = .ok (.iastore, 1) := by decide +kernel
theorem dX1_work_237 : decode cX1_work 237 = .ok (.aload_n 0, 1) := by decide +kernel
theorem dX1_work_238 : decode cX1_work 238 = .ok (.getfield 34, 3) := by decide +kernel
theorem dX1_work_241 : decode cX1_work 241 = .ok (.iload_n 3, 1) := by decide +kernel
theorem dX1_work_242 : decode cX1_work 242 = .ok (.aload_n 0, 1) := by decide +kernel
theorem dX1_work_243 : decode cX1_work 243 = .ok (.getfield 34, 3) := by decide +kernel
theorem dX1_work_246 : decode cX1_work 246 = .ok (.iload 4, 2) := by decide +kernel
theorem dX1_work_248 : decode cX1_work 248 = .ok (.iaload, 1) := by decide +kernel
theorem dX1_work_249 : decode cX1_work 249 = .ok (.aload_n 0, 1) := by decide +kernel
theorem dX1_work_250 : decode cX1_work 250 = .ok (.getfield 31, 3) := by decide +kernel
theorem dX1_work_253 : decode cX1_work 253 = .ok (.iload 5, 2) := by decide +kernel
theorem dX1_work_255 : decode cX1_work 255 = .ok (.iaload, 1) := by decide +kernel
theorem dX1_work_256 : decode cX1_work 256 = .ok (.imul, 1) := by decide +kernel
theorem dX1_work_257 : decode cX1_work 257 = .ok (.aload_n 0, 1) := by decide +kernel
theorem dX1_work_258 : decode cX1_work 258 = .ok (.getfield 31, 3) := by decide +kernel
theorem dX1_work_261 : decode cX1_work 261 = .ok (.iload 4, 2) := by decide +kernel
theorem dX1_work_263 : decode cX1_work 263 = .ok (.iaload, 1) := by decide +kernel
theorem dX1_work_264 : decode cX1_work 264 = .ok (.aload_n 0, 1) := by decide +kernel
theorem dX1_work_265 : decode cX1_work 265 = .ok (.getfield 34, 3) := by decide +kernel
theorem dX1_work_268 : decode cX1_work 268 = .ok (.iload 5, 2) := by decide +kernel
theorem dX1_work_270 : decode cX1_work 270 = .ok (.iaload, 1) := by decide +kernel
theorem dX1_work_271 : decode cX1_work 271 = .ok (.imul, 1) := by decide +kernel
theorem dX1_work_272 : decode cX1_work 272 = .ok (.iadd, 1) := by decide +kernel
theorem dX1_work_273 : decode cX1_work 273 = .ok (.iastore, 1) := by decide +kernel
theorem dX1_work_274 : decode cX1_work 274 = .ok (.iinc 3 1, 3) := by decide +kernel
theorem dX1_work_277 : decode cX1_work 277 = .ok (.goto (-275), 3) := by decide +kernel
theorem dX1_work_280 : decode cX1_work 280 = .ok (.return_, 1) := by decide +kernel
abbrev cX1_target : ByteArray := prog_3_method_23_code
def yX1_target : MethodName := ⟨RX1, "target", "(I)I"⟩
theorem dX1_target_0 : decode cX1_target 0 = .ok (.aload_n 0, 1) := by decide +kernel
theorem dX1_target_1 : decode cX1_target 1 = .ok (.iload_n 1, 1) := by decide +kernel
theorem dX1_target_2 : decode cX1_target 2 = .ok (.invokevirtual 62, 3) := by decide +kernel
theorem dX1_target_5 : decode cX1_target 5 = .ok (.ifCond .eq 5, 3) := by decide +kernel
theorem dX1_target_8 : decode cX1_target 8 = .ok (.iconst 0, 1) := by decide +kernel
theorem dX1_target_9 : decode cX1_target 9 = .ok (.ireturn, 1) := by decide +kernel
theorem dX1_target_10 : decode cX1_target 10 = .ok (.aload_n 0, 1) := by decide +kernel
theorem dX1_target_11 : decode cX1_target 11 = .ok (.iload_n 1, 1) := by decide +kernel
theorem dX1_target_12 : decode cX1_target 12 = .ok (.iconst 0, 1) := by decide +kernel
theorem dX1_target_13 : decode cX1_target 13 = .ok (.invokevirtual 68, 3) := by decide +kernel
theorem dX1_target_16 : decode cX1_target 16 = .ok (.aload_n 0, 1) := by decide +kernel
theorem dX1_target_17 : decode cX1_target 17 = .ok (.invokevirtual 72, 3) := by decide +kernel
theorem dX1_target_20 : decode cX1_target 20 = .ok (.ireturn, 1) := by decide +kernel
abbrev cX1_total : ByteArray := prog_3_method_20_code
def yX1_total : MethodName := ⟨RX1, "total", "()I"⟩
theorem dX1_total_0 : decode cX1_total 0 = .ok (.iconst 0, 1) := by decide +kernel
theorem dX1_total_1 : decode cX1_total 1 = .ok (.istore_n 1, 1) := by decide +kernel
theorem dX1_total_2 : decode cX1_total 2 = .ok (.iconst 0, 1) := by decide +kernel
theorem dX1_total_3 : decode cX1_total 3 = .ok (.istore_n 2, 1) := by decide +kernel
theorem dX1_total_4 : decode cX1_total 4 = .ok (.iload_n 2, 1) := by decide +kernel
theorem dX1_total_5 : decode cX1_total 5 = .ok (.aload_n 0, 1) := by decide +kernel
theorem dX1_total_6 : decode cX1_total 6 = .ok (.getfield 59, 3) := by decide +kernel
theorem dX1_total_9 : decode cX1_total 9 = .ok (.if_icmp .ge 36, 3) := by decide +kernel
theorem dX1_total_12 : decode cX1_total 12 = .ok (.iload_n 2, 1) := by decide +kernel
theorem dX1_total_13 : decode cX1_total 13 = .ok (.bipush 8, 2) := by decide +kernel
theorem dX1_total_15 : decode cX1_total 15 = .ok (.if_icmp .ge 30, 3) := by decide +kernel
theorem dX1_total_18 : decode cX1_total 18 = .ok (.iload_n 1, 1) := by decide +kernel
theorem dX1_total_19 : decode cX1_total 19 = .ok (.aload_n 0, 1) := by decide +kernel
theorem dX1_total_20 : decode cX1_total 20 = .ok (.getfield 22, 3) := by decide +kernel
theorem dX1_total_23 : decode cX1_total 23 = .ok (.iload_n 2, 1) := by decide +kernel
theorem dX1_total_24 : decode cX1_total 24 = .ok (.iaload, 1) := by decide +kernel
theorem dX1_total_25 : decode cX1_total 25 = .ok (.aload_n 0, 1) := by decide +kernel
theorem dX1_total_26 : decode cX1_total 26 = .ok (.getfield 31, 3) := by decide +kernel
theorem dX1_total_29 : decode cX1_total 29 = .ok (.aload_n 0, 1) := by decide +kernel
theorem dX1_total_30 : decode cX1_total 30 = .ok (.getfield 19, 3) := by decide +kernel
theorem dX1_total_33 : decode cX1_total 33 = .ok (.iload_n 2, 1) := by decide +kernel
theorem dX1_total_34 : decode cX1_total 34 = .ok (.iaload, 1) := by decide +kernel
theorem dX1_total_35 : decode cX1_total 35 = .ok (.iaload, 1) := by decide +kernel
theorem dX1_total_36 : decode cX1_total 36 = .ok (.imul, 1) := by decide +kernel
theorem dX1_total_37 : decode cX1_total 37 = .ok (.iadd, 1) := by decide +kernel
theorem dX1_total_38 : decode cX1_total 38 = .ok (.istore_n 1, 1) := by decide +kernel
theorem dX1_total_39 : decode cX1_total 39 = .ok (.iinc 2 1, 3) := by decide +kernel
theorem dX1_total_42 : decode cX1_total 42 = .ok (.goto (-38), 3) := by decide +kernel
theorem dX1_total_45 : decode cX1_total 45 = .ok (.iload_n 1, 1) := by decide +kernel
theorem dX1_total_46 : decode cX1_total 46 = .ok (.ireturn, 1) := by decide +kernel
abbrev cX1_slope : ByteArray := prog_3_method_24_code
def yX1_slope : MethodName := ⟨RX1, "slope", "(II)I"⟩
theorem dX1_slope_0 : decode cX1_slope 0 = .ok (.aload_n 0, 1) := by decide +kernel
theorem dX1_slope_1 : decode cX1_slope 1 = .ok (.iload_n 1, 1) := by decide +kernel
theorem dX1_slope_2 : decode cX1_slope 2 = .ok (.invokevirtual 62, 3) := by decide +kernel
theorem dX1_slope_5 : decode cX1_slope 5 = .ok (.ifCond .ne 11, 3) := by decide +kernel
theorem dX1_slope_8 : decode cX1_slope 8 = .ok (.aload_n 0, 1) := by decide +kernel
theorem dX1_slope_9 : decode cX1_slope 9 = .ok (.iload_n 2, 1) := by decide +kernel
theorem dX1_slope_10 : decode cX1_slope 10 = .ok (.invokevirtual 48, 3) := by decide +kernel
theorem dX1_slope_13 : decode cX1_slope 13 = .ok (.ifCond .eq 5, 3) := by decide +kernel
theorem dX1_slope_16 : decode cX1_slope 16 = .ok (.iconst 0, 1) := by decide +kernel
theorem dX1_slope_17 : decode cX1_slope 17 = .ok (.ireturn, 1) := by decide +kernel
theorem dX1_slope_18 : decode cX1_slope 18 = .ok (.aload_n 0, 1) := by decide +kernel
theorem dX1_slope_19 : decode cX1_slope 19 = .ok (.iload_n 1, 1) := by decide +kernel
theorem dX1_slope_20 : decode cX1_slope 20 = .ok (.iload_n 2, 1) := by decide +kernel
theorem dX1_slope_21 : decode cX1_slope 21 = .ok (.invokevirtual 68, 3) := by decide +kernel
theorem dX1_slope_24 : decode cX1_slope 24 = .ok (.aload_n 0, 1) := by decide +kernel
theorem dX1_slope_25 : decode cX1_slope 25 = .ok (.invokevirtual 76, 3) := by decide +kernel
theorem dX1_slope_28 : decode cX1_slope 28 = .ok (.ireturn, 1) := by decide +kernel
abbrev cX1_steepness : ByteArray := prog_3_method_21_code
def yX1_steepness : MethodName := ⟨RX1, "steepness", "()I"⟩
theorem dX1_steepness_0 : decode cX1_steepness 0 = .ok (.iconst 0, 1) := by decide +kernel
theorem dX1_steepness_1 : decode cX1_steepness 1 = .ok (.istore_n 1, 1) := by decide +kernel
theorem dX1_steepness_2 : decode cX1_steepness 2 = .ok (.iconst 0, 1) := by decide +kernel
theorem dX1_steepness_3 : decode cX1_steepness 3 = .ok (.istore_n 2, 1) := by decide +kernel
theorem dX1_steepness_4 : decode cX1_steepness 4 = .ok (.iload_n 2, 1) := by decide +kernel
theorem dX1_steepness_5 : decode cX1_steepness 5 = .ok (.aload_n 0, 1) := by decide +kernel
theorem dX1_steepness_6 : decode cX1_steepness 6 = .ok (.getfield 59, 3) := by decide +kernel
theorem dX1_steepness_9 : decode cX1_steepness 9 = .ok (.if_icmp .ge 36, 3) := by decide +kernel
theorem dX1_steepness_12 : decode cX1_steepness 12 = .ok (.iload_n 2, 1) := by decide +kernel
theorem dX1_steepness_13 : decode cX1_steepness 13 = .ok (.bipush 8, 2) := by decide +kernel
theorem dX1_steepness_15 : decode cX1_steepness 15 = .ok (.if_icmp .ge 30, 3) := by decide +kernel
theorem dX1_steepness_18 : decode cX1_steepness 18 = .ok (.iload_n 1, 1) := by decide +kernel
theorem dX1_steepness_19 : decode cX1_steepness 19 = .ok (.aload_n 0, 1) := by decide +kernel
theorem dX1_steepness_20 : decode cX1_steepness 20 = .ok (.getfield 22, 3) := by decide +kernel
theorem dX1_steepness_23 : decode cX1_steepness 23 = .ok (.iload_n 2, 1) := by decide +kernel
theorem dX1_steepness_24 : decode cX1_steepness 24 = .ok (.iaload, 1) := by decide +kernel
theorem dX1_steepness_25 : decode cX1_steepness 25 = .ok (.aload_n 0, 1) := by decide +kernel
theorem dX1_steepness_26 : decode cX1_steepness 26 = .ok (.getfield 34, 3) := by decide +kernel
theorem dX1_steepness_29 : decode cX1_steepness 29 = .ok (.aload_n 0, 1) := by decide +kernel
theorem dX1_steepness_30 : decode cX1_steepness 30 = .ok (.getfield 19, 3) := by decide +kernel
theorem dX1_steepness_33 : decode cX1_steepness 33 = .ok (.iload_n 2, 1) := by decide +kernel
theorem dX1_steepness_34 : decode cX1_steepness 34 = .ok (.iaload, 1) := by decide +kernel
theorem dX1_steepness_35 : decode cX1_steepness 35 = .ok (.iaload, 1) := by decide +kernel
theorem dX1_steepness_36 : decode cX1_steepness 36 = .ok (.imul, 1) := by decide +kernel
theorem dX1_steepness_37 : decode cX1_steepness 37 = .ok (.iadd, 1) := by decide +kernel
theorem dX1_steepness_38 : decode cX1_steepness 38 = .ok (.istore_n 1, 1) := by decide +kernel
theorem dX1_steepness_39 : decode cX1_steepness 39 = .ok (.iinc 2 1, 3) := by decide +kernel
theorem dX1_steepness_42 : decode cX1_steepness 42 = .ok (.goto (-38), 3) := by decide +kernel
theorem dX1_steepness_45 : decode cX1_steepness 45 = .ok (.iload_n 1, 1) := by decide +kernel
theorem dX1_steepness_46 : decode cX1_steepness 46 = .ok (.ireturn, 1) := by decide +kernel
abbrev cX1_drift : ByteArray := prog_3_method_25_code
def yX1_drift : MethodName := ⟨RX1, "drift", "(I)I"⟩
theorem dX1_drift_0 : decode cX1_drift 0 = .ok (.aload_n 0, 1) := by decide +kernel
theorem dX1_drift_1 : decode cX1_drift 1 = .ok (.iload_n 1, 1) := by decide +kernel
theorem dX1_drift_2 : decode cX1_drift 2 = .ok (.invokevirtual 62, 3) := by decide +kernel
theorem dX1_drift_5 : decode cX1_drift 5 = .ok (.ifCond .eq 5, 3) := by decide +kernel
theorem dX1_drift_8 : decode cX1_drift 8 = .ok (.iconst 0, 1) := by decide +kernel
theorem dX1_drift_9 : decode cX1_drift 9 = .ok (.ireturn, 1) := by decide +kernel
theorem dX1_drift_10 : decode cX1_drift 10 = .ok (.iconst 0, 1) := by decide +kernel
theorem dX1_drift_11 : decode cX1_drift 11 = .ok (.istore_n 2, 1) := by decide +kernel
theorem dX1_drift_12 : decode cX1_drift 12 = .ok (.iconst 0, 1) := by decide +kernel
theorem dX1_drift_13 : decode cX1_drift 13 = .ok (.istore_n 3, 1) := by decide +kernel
theorem dX1_drift_14 : decode cX1_drift 14 = .ok (.iload_n 3, 1) := by decide +kernel
theorem dX1_drift_15 : decode cX1_drift 15 = .ok (.iconst 4, 1) := by decide +kernel
theorem dX1_drift_16 : decode cX1_drift 16 = .ok (.if_icmp .ge 33, 3) := by decide +kernel
theorem dX1_drift_19 : decode cX1_drift 19 = .ok (.aload_n 0, 1) := by decide +kernel
theorem dX1_drift_20 : decode cX1_drift 20 = .ok (.iload_n 1, 1) := by decide +kernel
theorem dX1_drift_21 : decode cX1_drift 21 = .ok (.iload_n 3, 1) := by decide +kernel
theorem dX1_drift_22 : decode cX1_drift 22 = .ok (.invokevirtual 68, 3) := by decide +kernel
theorem dX1_drift_25 : decode cX1_drift 25 = .ok (.iload_n 2, 1) := by decide +kernel
theorem dX1_drift_26 : decode cX1_drift 26 = .ok (.aload_n 0, 1) := by decide +kernel
theorem dX1_drift_27 : decode cX1_drift 27 = .ok (.getfield 28, 3) := by decide +kernel
theorem dX1_drift_30 : decode cX1_drift 30 = .ok (.iconst 4, 1) := by decide +kernel
theorem dX1_drift_31 : decode cX1_drift 31 = .ok (.iload_n 1, 1) := by decide +kernel
theorem dX1_drift_32 : decode cX1_drift 32 = .ok (.imul, 1) := by decide +kernel
theorem dX1_drift_33 : decode cX1_drift 33 = .ok (.iload_n 3, 1) := by decide +kernel
theorem dX1_drift_34 : decode cX1_drift 34 = .ok (.iadd, 1) := by decide +kernel
theorem dX1_drift_35 : decode cX1_drift 35 = .ok (.iaload, 1) := by decide +kernel
theorem dX1_drift_36 : decode cX1_drift 36 = .ok (.aload_n 0, 1) := by decide +kernel
theorem dX1_drift_37 : decode cX1_drift 37 = .ok (.invokevirtual 76, 3) := by decide +kernel
theorem dX1_drift_40 : decode cX1_drift 40 = .ok (.imul, 1) := by decide +kernel
theorem dX1_drift_41 : decode cX1_drift 41 = .ok (.iadd, 1) := by decide +kernel
theorem dX1_drift_42 : decode cX1_drift 42 = .ok (.istore_n 2, 1) := by decide +kernel
theorem dX1_drift_43 : decode cX1_drift 43 = .ok (.iinc 3 1, 3) := by decide +kernel
theorem dX1_drift_46 : decode cX1_drift 46 = .ok (.goto (-32), 3) := by decide +kernel
theorem dX1_drift_49 : decode cX1_drift 49 = .ok (.iload_n 2, 1) := by decide +kernel
theorem dX1_drift_50 : decode cX1_drift 50 = .ok (.ireturn, 1) := by decide +kernel
abbrev cX1_targetAt : ByteArray := prog_3_method_26_code
def yX1_targetAt : MethodName := ⟨RX1, "targetAt", "(III)I"⟩
theorem dX1_targetAt_0 : decode cX1_targetAt 0 = .ok (.aload_n 0, 1) := by decide +kernel
theorem dX1_targetAt_1 : decode cX1_targetAt 1 = .ok (.iload_n 1, 1) := by decide +kernel
theorem dX1_targetAt_2 : decode cX1_targetAt 2 = .ok (.invokevirtual 62, 3) := by decide +kernel
theorem dX1_targetAt_5 : decode cX1_targetAt 5 = .ok (.ifCond .ne 11, 3) := by decide +kernel
theorem dX1_targetAt_8 : decode cX1_targetAt 8 = .ok (.aload_n 0, 1) := by decide +kernel
theorem dX1_targetAt_9 : decode cX1_targetAt 9 = .ok (.iload_n 2, 1) := by decide +kernel
theorem dX1_targetAt_10 : decode cX1_targetAt 10 = .ok (.invokevirtual 48, 3) := by decide +kernel
theorem dX1_targetAt_13 : decode cX1_targetAt 13 = .ok (.ifCond .eq 5, 3) := by decide +kernel
theorem dX1_targetAt_16 : decode cX1_targetAt 16 = .ok (.iconst 0, 1) := by decide +kernel
theorem dX1_targetAt_17 : decode cX1_targetAt 17 = .ok (.ireturn, 1) := by decide +kernel
theorem dX1_targetAt_18 : decode cX1_targetAt 18 = .ok (.aload_n 0, 1) := by decide +kernel
theorem dX1_targetAt_19 : decode cX1_targetAt 19 = .ok (.getfield 25, 3) := by decide +kernel
theorem dX1_targetAt_22 : decode cX1_targetAt 22 = .ok (.iconst 4, 1) := by decide +kernel
theorem dX1_targetAt_23 : decode cX1_targetAt 23 = .ok (.iload_n 1, 1) := by decide +kernel
theorem dX1_targetAt_24 : decode cX1_targetAt 24 = .ok (.imul, 1) := by decide +kernel
theorem dX1_targetAt_25 : decode cX1_targetAt 25 = .ok (.iload_n 2, 1) := by decide +kernel
theorem dX1_targetAt_26 : decode cX1_targetAt 26 = .ok (.iadd, 1) := by decide +kernel
theorem dX1_targetAt_27 : decode cX1_targetAt 27 = .ok (.iaload, 1) := by decide +kernel
theorem dX1_targetAt_28 : decode cX1_targetAt 28 = .ok (.istore 4, 2) := by decide +kernel
theorem dX1_targetAt_30 : decode cX1_targetAt 30 = .ok (.aload_n 0, 1) := by decide +kernel
theorem dX1_targetAt_31 : decode cX1_targetAt 31 = .ok (.getfield 25, 3) := by decide +kernel
theorem dX1_targetAt_34 : decode cX1_targetAt 34 = .ok (.iconst 4, 1) := by decide +kernel
theorem dX1_targetAt_35 : decode cX1_targetAt 35 = .ok (.iload_n 1, 1) := by decide +kernel
theorem dX1_targetAt_36 : decode cX1_targetAt 36 = .ok (.imul, 1) := by decide +kernel
theorem dX1_targetAt_37 : decode cX1_targetAt 37 = .ok (.iload_n 2, 1) := by decide +kernel
theorem dX1_targetAt_38 : decode cX1_targetAt 38 = .ok (.iadd, 1) := by decide +kernel
theorem dX1_targetAt_39 : decode cX1_targetAt 39 = .ok (.iload_n 3, 1) := by decide +kernel
theorem dX1_targetAt_40 : decode cX1_targetAt 40 = .ok (.iastore, 1) := by decide +kernel
theorem dX1_targetAt_41 : decode cX1_targetAt 41 = .ok (.aload_n 0, 1) := by decide +kernel
theorem dX1_targetAt_42 : decode cX1_targetAt 42 = .ok (.iload_n 1, 1) := by decide +kernel
theorem dX1_targetAt_43 : decode cX1_targetAt 43 = .ok (.iload_n 2, 1) := by decide +kernel
theorem dX1_targetAt_44 : decode cX1_targetAt 44 = .ok (.invokevirtual 68, 3) := by decide +kernel
theorem dX1_targetAt_47 : decode cX1_targetAt 47 = .ok (.aload_n 0, 1) := by decide +kernel
theorem dX1_targetAt_48 : decode cX1_targetAt 48 = .ok (.getfield 25, 3) := by decide +kernel
theorem dX1_targetAt_51 : decode cX1_targetAt 51 = .ok (.iconst 4, 1) := by decide +kernel
theorem dX1_targetAt_52 : decode cX1_targetAt 52 = .ok (.iload_n 1, 1) := by decide +kernel
theorem dX1_targetAt_53 : decode cX1_targetAt 53 = .ok (.imul, 1) := by decide +kernel
theorem dX1_targetAt_54 : decode cX1_targetAt 54 = .ok (.iload_n 2, 1) := by decide +kernel
theorem dX1_targetAt_55 : decode cX1_targetAt 55 = .ok (.iadd, 1) := by decide +kernel
theorem dX1_targetAt_56 : decode cX1_targetAt 56 = .ok (.iload 4, 2) := by decide +kernel
theorem dX1_targetAt_58 : decode cX1_targetAt 58 = .ok (.iastore, 1) := by decide +kernel
theorem dX1_targetAt_59 : decode cX1_targetAt 59 = .ok (.aload_n 0, 1) := by decide +kernel
theorem dX1_targetAt_60 : decode cX1_targetAt 60 = .ok (.invokevirtual 72, 3) := by decide +kernel
theorem dX1_targetAt_63 : decode cX1_targetAt 63 = .ok (.ireturn, 1) := by decide +kernel
end
section
set_option maxRecDepth 100000
abbrev cX1_leap : ByteArray := prog_3_method_28_code
def yX1_leap : MethodName := ⟨RX1, "leap", "(II)I"⟩
theorem dX1_leap_0 : decode cX1_leap 0 = .ok (.aload_n 0, 1) := by decide +kernel
theorem dX1_leap_1 : decode cX1_leap 1 = .ok (.iload_n 1, 1) := by decide +kernel
theorem dX1_leap_2 : decode cX1_leap 2 = .ok (.invokevirtual 62, 3) := by decide +kernel
theorem dX1_leap_5 : decode cX1_leap 5 = .ok (.ifCond .eq 5, 3) := by decide +kernel
theorem dX1_leap_8 : decode cX1_leap 8 = .ok (.iconst (-1), 1) := by decide +kernel
theorem dX1_leap_9 : decode cX1_leap 9 = .ok (.ireturn, 1) := by decide +kernel
theorem dX1_leap_10 : decode cX1_leap 10 = .ok (.iload_n 2, 1) := by decide +kernel
theorem dX1_leap_11 : decode cX1_leap 11 = .ok (.ifCond .lt 9, 3) := by decide +kernel
theorem dX1_leap_14 : decode cX1_leap 14 = .ok (.iload_n 2, 1) := by decide +kernel
theorem dX1_leap_15 : decode cX1_leap 15 = .ok (.bipush 40, 2) := by decide +kernel
theorem dX1_leap_17 : decode cX1_leap 17 = .ok (.if_icmp .le 6, 3) := by decide +kernel
theorem dX1_leap_20 : decode cX1_leap 20 = .ok (.bipush (-2), 2) := by decide +kernel
theorem dX1_leap_22 : decode cX1_leap 22 = .ok (.ireturn, 1) := by decide +kernel
theorem dX1_leap_23 : decode cX1_leap 23 = .ok (.iconst 0, 1) := by decide +kernel
theorem dX1_leap_24 : decode cX1_leap 24 = .ok (.istore_n 3, 1) := by decide +kernel
theorem dX1_leap_25 : decode cX1_leap 25 = .ok (.iload_n 3, 1) := by decide +kernel
theorem dX1_leap_26 : decode cX1_leap 26 = .ok (.iload_n 2, 1) := by decide +kernel
theorem dX1_leap_27 : decode cX1_leap 27 = .ok (.if_icmp .ge 59, 3) := by decide +kernel
theorem dX1_leap_30 : decode cX1_leap 30 = .ok (.aload_n 0, 1) := by decide +kernel
theorem dX1_leap_31 : decode cX1_leap 31 = .ok (.iload_n 1, 1) := by decide +kernel
theorem dX1_leap_32 : decode cX1_leap 32 = .ok (.invokevirtual 79, 3) := by decide +kernel
theorem dX1_leap_35 : decode cX1_leap 35 = .ok (.iconst 0, 1) := by decide +kernel
theorem dX1_leap_36 : decode cX1_leap 36 = .ok (.istore 4, 2) := by decide +kernel
theorem dX1_leap_38 : decode cX1_leap 38 = .ok (.iload 4, 2) := by decide +kernel
theorem dX1_leap_40 : decode cX1_leap 40 = .ok (.iconst 4, 1) := by decide +kernel
theorem dX1_leap_41 : decode cX1_leap 41 = .ok (.if_icmp .ge 34, 3) := by decide +kernel
theorem dX1_leap_44 : decode cX1_leap 44 = .ok (.aload_n 0, 1) := by decide +kernel
theorem dX1_leap_45 : decode cX1_leap 45 = .ok (.getfield 25, 3) := by decide +kernel
theorem dX1_leap_48 : decode cX1_leap 48 = .ok (.iconst 4, 1) := by decide +kernel
theorem dX1_leap_49 : decode cX1_leap 49 = .ok (.iload_n 1, 1) := by decide +kernel
theorem dX1_leap_50 : decode cX1_leap 50 = .ok (.imul, 1) := by decide +kernel
theorem dX1_leap_51 : decode cX1_leap 51 = .ok (.iload 4, 2) := by decide +kernel
theorem dX1_leap_53 : decode cX1_leap 53 = .ok (.iadd, 1) := by decide +kernel
theorem dX1_leap_54 : decode cX1_leap 54 = .ok (.dup2, 1) := by decide +kernel
theorem dX1_leap_55 : decode cX1_leap 55 = .ok (.iaload, 1) := by decide +kernel
theorem dX1_leap_56 : decode cX1_leap 56 = .ok (.aload_n 0, 1) := by decide +kernel
theorem dX1_leap_57 : decode cX1_leap 57 = .ok (.getfield 28, 3) := by decide +kernel
theorem dX1_leap_60 : decode cX1_leap 60 = .ok (.iconst 4, 1) := by decide +kernel
theorem dX1_leap_61 : decode cX1_leap 61 = .ok (.iload_n 1, 1) := by decide +kernel
theorem dX1_leap_62 : decode cX1_leap 62 = .ok (.imul, 1) := by decide +kernel
theorem dX1_leap_63 : decode cX1_leap 63 = .ok (.iload 4, 2) := by decide +kernel
theorem dX1_leap_65 : decode cX1_leap 65 = .ok (.iadd, 1) := by decide +kernel
theorem dX1_leap_66 : decode cX1_leap 66 = .ok (.iaload, 1) := by decide +kernel
theorem dX1_leap_67 : decode cX1_leap 67 = .ok (.iadd, 1) := by decide +kernel
theorem dX1_leap_68 : decode cX1_leap 68 = .ok (.iastore, 1) := by decide +kernel
theorem dX1_leap_69 : decode cX1_leap 69 = .ok (.iinc 4 1, 3) := by decide +kernel
theorem dX1_leap_72 : decode cX1_leap 72 = .ok (.goto (-34), 3) := by decide +kernel
theorem dX1_leap_75 : decode cX1_leap 75 = .ok (.aload_n 0, 1) := by decide +kernel
theorem dX1_leap_76 : decode cX1_leap 76 = .ok (.iload_n 1, 1) := by decide +kernel
theorem dX1_leap_77 : decode cX1_leap 77 = .ok (.invokevirtual 79, 3) := by decide +kernel
theorem dX1_leap_80 : decode cX1_leap 80 = .ok (.iinc 3 1, 3) := by decide +kernel
theorem dX1_leap_83 : decode cX1_leap 83 = .ok (.goto (-58), 3) := by decide +kernel
theorem dX1_leap_86 : decode cX1_leap 86 = .ok (.aload_n 0, 1) := by decide +kernel
theorem dX1_leap_87 : decode cX1_leap 87 = .ok (.iload_n 1, 1) := by decide +kernel
theorem dX1_leap_88 : decode cX1_leap 88 = .ok (.iconst 0, 1) := by decide +kernel
theorem dX1_leap_89 : decode cX1_leap 89 = .ok (.invokevirtual 68, 3) := by decide +kernel
theorem dX1_leap_92 : decode cX1_leap 92 = .ok (.aload_n 0, 1) := by decide +kernel
theorem dX1_leap_93 : decode cX1_leap 93 = .ok (.invokevirtual 72, 3) := by decide +kernel
theorem dX1_leap_96 : decode cX1_leap 96 = .ok (.sipush 255, 3) := by decide +kernel
theorem dX1_leap_99 : decode cX1_leap 99 = .ok (.iand, 1) := by decide +kernel
theorem dX1_leap_100 : decode cX1_leap 100 = .ok (.ireturn, 1) := by decide +kernel
abbrev cX1_kick : ByteArray := prog_3_method_27_code
def yX1_kick : MethodName := ⟨RX1, "kick", "(I)V"⟩
theorem dX1_kick_0 : decode cX1_kick 0 = .ok (.iconst 0, 1) := by decide +kernel
theorem dX1_kick_1 : decode cX1_kick 1 = .ok (.istore_n 2, 1) := by decide +kernel
theorem dX1_kick_2 : decode cX1_kick 2 = .ok (.iload_n 2, 1) := by decide +kernel
theorem dX1_kick_3 : decode cX1_kick 3 = .ok (.iconst 4, 1) := by decide +kernel
theorem dX1_kick_4 : decode cX1_kick 4 = .ok (.if_icmp .ge 25, 3) := by decide +kernel
theorem dX1_kick_7 : decode cX1_kick 7 = .ok (.aload_n 0, 1) := by decide +kernel
theorem dX1_kick_8 : decode cX1_kick 8 = .ok (.iload_n 1, 1) := by decide +kernel
theorem dX1_kick_9 : decode cX1_kick 9 = .ok (.iload_n 2, 1) := by decide +kernel
theorem dX1_kick_10 : decode cX1_kick 10 = .ok (.invokevirtual 68, 3) := by decide +kernel
theorem dX1_kick_13 : decode cX1_kick 13 = .ok (.aload_n 0, 1) := by decide +kernel
theorem dX1_kick_14 : decode cX1_kick 14 = .ok (.getfield 37, 3) := by decide +kernel
theorem dX1_kick_17 : decode cX1_kick 17 = .ok (.iload_n 2, 1) := by decide +kernel
theorem dX1_kick_18 : decode cX1_kick 18 = .ok (.aload_n 0, 1) := by decide +kernel
theorem dX1_kick_19 : decode cX1_kick 19 = .ok (.invokevirtual 76, 3) := by decide +kernel
theorem dX1_kick_22 : decode cX1_kick 22 = .ok (.iastore, 1) := by decide +kernel
theorem dX1_kick_23 : decode cX1_kick 23 = .ok (.iinc 2 1, 3) := by decide +kernel
theorem dX1_kick_26 : decode cX1_kick 26 = .ok (.goto (-24), 3) := by decide +kernel
theorem dX1_kick_29 : decode cX1_kick 29 = .ok (.iconst 0, 1) := by decide +kernel
theorem dX1_kick_30 : decode cX1_kick 30 = .ok (.istore_n 2, 1) := by decide +kernel
theorem dX1_kick_31 : decode cX1_kick 31 = .ok (.iload_n 2, 1) := by decide +kernel
theorem dX1_kick_32 : decode cX1_kick 32 = .ok (.iconst 4, 1) := by decide +kernel
theorem dX1_kick_33 : decode cX1_kick 33 = .ok (.if_icmp .ge 33, 3) := by decide +kernel
theorem dX1_kick_36 : decode cX1_kick 36 = .ok (.aload_n 0, 1) := by decide +kernel
theorem dX1_kick_37 : decode cX1_kick 37 = .ok (.getfield 28, 3) := by decide +kernel
theorem dX1_kick_40 : decode cX1_kick 40 = .ok (.iconst 4, 1) := by decide +kernel
theorem dX1_kick_41 : decode cX1_kick 41 = .ok (.iload_n 1, 1) := by decide +kernel
theorem dX1_kick_42 : decode cX1_kick 42 = .ok (.imul, 1) := by decide +kernel
theorem dX1_kick_43 : decode cX1_kick 43 = .ok (.iload_n 2, 1) := by decide +kernel
theorem dX1_kick_44 : decode cX1_kick 44 = .ok (.iadd, 1) := by decide +kernel
theorem dX1_kick_45 : decode cX1_kick 45 = .ok (.dup2, 1) := by decide +kernel
theorem dX1_kick_46 : decode cX1_kick 46 = .ok (.iaload, 1) := by decide +kernel
theorem dX1_kick_47 : decode cX1_kick 47 = .ok (.aload_n 0, 1) := by decide +kernel
theorem dX1_kick_48 : decode cX1_kick 48 = .ok (.getfield 37, 3) := by decide +kernel
theorem dX1_kick_51 : decode cX1_kick 51 = .ok (.iload_n 2, 1) := by decide +kernel
theorem dX1_kick_52 : decode cX1_kick 52 = .ok (.iaload, 1) := by decide +kernel
theorem dX1_kick_53 : decode cX1_kick 53 = .ok (.aload_n 0, 1) := by decide +kernel
theorem dX1_kick_54 : decode cX1_kick 54 = .ok (.getfield 65, 3) := by decide +kernel
theorem dX1_kick_57 : decode cX1_kick 57 = .ok (.ishr, 1) := by decide +kernel
theorem dX1_kick_58 : decode cX1_kick 58 = .ok (.iadd, 1) := by decide +kernel
theorem dX1_kick_59 : decode cX1_kick 59 = .ok (.iastore, 1) := by decide +kernel
theorem dX1_kick_60 : decode cX1_kick 60 = .ok (.iinc 2 1, 3) := by decide +kernel
theorem dX1_kick_63 : decode cX1_kick 63 = .ok (.goto (-32), 3) := by decide +kernel
theorem dX1_kick_66 : decode cX1_kick 66 = .ok (.return_, 1) := by decide +kernel
abbrev cX1_turn : ByteArray := prog_3_method_29_code
def yX1_turn : MethodName := ⟨RX1, "turn", "(I)I"⟩
theorem dX1_turn_0 : decode cX1_turn 0 = .ok (.aload_n 0, 1) := by decide +kernel
theorem dX1_turn_1 : decode cX1_turn 1 = .ok (.iload_n 1, 1) := by decide +kernel
theorem dX1_turn_2 : decode cX1_turn 2 = .ok (.invokevirtual 62, 3) := by decide +kernel
theorem dX1_turn_5 : decode cX1_turn 5 = .ok (.ifCond .eq 5, 3) := by decide +kernel
theorem dX1_turn_8 : decode cX1_turn 8 = .ok (.iconst (-1), 1) := by decide +kernel
theorem dX1_turn_9 : decode cX1_turn 9 = .ok (.ireturn, 1) := by decide +kernel
theorem dX1_turn_10 : decode cX1_turn 10 = .ok (.iconst 0, 1) := by decide +kernel
theorem dX1_turn_11 : decode cX1_turn 11 = .ok (.istore_n 2, 1) := by decide +kernel
theorem dX1_turn_12 : decode cX1_turn 12 = .ok (.iload_n 2, 1) := by decide +kernel
theorem dX1_turn_13 : decode cX1_turn 13 = .ok (.iconst 4, 1) := by decide +kernel
theorem dX1_turn_14 : decode cX1_turn 14 = .ok (.if_icmp .ge 30, 3) := by decide +kernel
theorem dX1_turn_17 : decode cX1_turn 17 = .ok (.aload_n 0, 1) := by decide +kernel
theorem dX1_turn_18 : decode cX1_turn 18 = .ok (.getfield 28, 3) := by decide +kernel
theorem dX1_turn_21 : decode cX1_turn 21 = .ok (.iconst 4, 1) := by decide +kernel
theorem dX1_turn_22 : decode cX1_turn 22 = .ok (.iload_n 1, 1) := by decide +kernel
theorem dX1_turn_23 : decode cX1_turn 23 = .ok (.imul, 1) := by decide +kernel
theorem dX1_turn_24 : decode cX1_turn 24 = .ok (.iload_n 2, 1) := by decide +kernel
theorem dX1_turn_25 : decode cX1_turn 25 = .ok (.iadd, 1) := by decide +kernel
theorem dX1_turn_26 : decode cX1_turn 26 = .ok (.aload_n 0, 1) := by decide +kernel
theorem dX1_turn_27 : decode cX1_turn 27 = .ok (.getfield 28, 3) := by decide +kernel
theorem dX1_turn_30 : decode cX1_turn 30 = .ok (.iconst 4, 1) := by decide +kernel
theorem dX1_turn_31 : decode cX1_turn 31 = .ok (.iload_n 1, 1) := by decide +kernel
theorem dX1_turn_32 : decode cX1_turn 32 = .ok (.imul, 1) := by decide +kernel
theorem dX1_turn_33 : decode cX1_turn 33 = .ok (.iload_n 2, 1) := by decide +kernel
theorem dX1_turn_34 : decode cX1_turn 34 = .ok (.iadd, 1) := by decide +kernel
theorem dX1_turn_35 : decode cX1_turn 35 = .ok (.iaload, 1) := by decide +kernel
theorem dX1_turn_36 : decode cX1_turn 36 = .ok (.ineg, 1) := by decide +kernel
theorem dX1_turn_37 : decode cX1_turn 37 = .ok (.iastore, 1) := by decide +kernel
theorem dX1_turn_38 : decode cX1_turn 38 = .ok (.iinc 2 1, 3) := by decide +kernel
theorem dX1_turn_41 : decode cX1_turn 41 = .ok (.goto (-29), 3) := by decide +kernel
theorem dX1_turn_44 : decode cX1_turn 44 = .ok (.iconst 0, 1) := by decide +kernel
theorem dX1_turn_45 : decode cX1_turn 45 = .ok (.ireturn, 1) := by decide +kernel
abbrev cX1_copy : ByteArray := prog_3_method_30_code
def yX1_copy : MethodName := ⟨RX1, "copy", "(II)I"⟩
theorem dX1_copy_0 : decode cX1_copy 0 = .ok (.aload_n 0, 1) := by decide +kernel
theorem dX1_copy_1 : decode cX1_copy 1 = .ok (.iload_n 1, 1) := by decide +kernel
theorem dX1_copy_2 : decode cX1_copy 2 = .ok (.invokevirtual 62, 3) := by decide +kernel
theorem dX1_copy_5 : decode cX1_copy 5 = .ok (.ifCond .ne 11, 3) := by decide +kernel
theorem dX1_copy_8 : decode cX1_copy 8 = .ok (.aload_n 0, 1) := by decide +kernel
theorem dX1_copy_9 : decode cX1_copy 9 = .ok (.iload_n 2, 1) := by decide +kernel
theorem dX1_copy_10 : decode cX1_copy 10 = .ok (.invokevirtual 62, 3) := by decide +kernel
theorem dX1_copy_13 : decode cX1_copy 13 = .ok (.ifCond .eq 5, 3) := by decide +kernel
theorem dX1_copy_16 : decode cX1_copy 16 = .ok (.iconst (-1), 1) := by decide +kernel
theorem dX1_copy_17 : decode cX1_copy 17 = .ok (.ireturn, 1) := by decide +kernel
theorem dX1_copy_18 : decode cX1_copy 18 = .ok (.iconst 0, 1) := by decide +kernel
theorem dX1_copy_19 : decode cX1_copy 19 = .ok (.istore_n 3, 1) := by decide +kernel
theorem dX1_copy_20 : decode cX1_copy 20 = .ok (.iload_n 3, 1) := by decide +kernel
theorem dX1_copy_21 : decode cX1_copy 21 = .ok (.iconst 4, 1) := by decide +kernel
theorem dX1_copy_22 : decode cX1_copy 22 = .ok (.if_icmp .ge 49, 3) := by decide +kernel
theorem dX1_copy_25 : decode cX1_copy 25 = .ok (.aload_n 0, 1) := by decide +kernel
theorem dX1_copy_26 : decode cX1_copy 26 = .ok (.getfield 25, 3) := by decide +kernel
theorem dX1_copy_29 : decode cX1_copy 29 = .ok (.iconst 4, 1) := by decide +kernel
theorem dX1_copy_30 : decode cX1_copy 30 = .ok (.iload_n 2, 1) := by decide +kernel
theorem dX1_copy_31 : decode cX1_copy 31 = .ok (.imul, 1) := by decide +kernel
theorem dX1_copy_32 : decode cX1_copy 32 = .ok (.iload_n 3, 1) := by decide +kernel
theorem dX1_copy_33 : decode cX1_copy 33 = .ok (.iadd, 1) := by decide +kernel
theorem dX1_copy_34 : decode cX1_copy 34 = .ok (.aload_n 0, 1) := by decide +kernel
theorem dX1_copy_35 : decode cX1_copy 35 = .ok (.getfield 25, 3) := by decide +kernel
theorem dX1_copy_38 : decode cX1_copy 38 = .ok (.iconst 4, 1) := by decide +kernel
theorem dX1_copy_39 : decode cX1_copy 39 = .ok (.iload_n 1, 1) := by decide +kernel
theorem dX1_copy_40 : decode cX1_copy 40 = .ok (.imul, 1) := by decide +kernel
theorem dX1_copy_41 : decode cX1_copy 41 = .ok (.iload_n 3, 1) := by decide +kernel
theorem dX1_copy_42 : decode cX1_copy 42 = .ok (.iadd, 1) := by decide +kernel
theorem dX1_copy_43 : decode cX1_copy 43 = .ok (.iaload, 1) := by decide +kernel
theorem dX1_copy_44 : decode cX1_copy 44 = .ok (.iastore, 1) := by decide +kernel
theorem dX1_copy_45 : decode cX1_copy 45 = .ok (.aload_n 0, 1) := by decide +kernel
theorem dX1_copy_46 : decode cX1_copy 46 = .ok (.getfield 28, 3) := by decide +kernel
theorem dX1_copy_49 : decode cX1_copy 49 = .ok (.iconst 4, 1) := by decide +kernel
theorem dX1_copy_50 : decode cX1_copy 50 = .ok (.iload_n 2, 1) := by decide +kernel
theorem dX1_copy_51 : decode cX1_copy 51 = .ok (.imul, 1) := by decide +kernel
theorem dX1_copy_52 : decode cX1_copy 52 = .ok (.iload_n 3, 1) := by decide +kernel
theorem dX1_copy_53 : decode cX1_copy 53 = .ok (.iadd, 1) := by decide +kernel
theorem dX1_copy_54 : decode cX1_copy 54 = .ok (.aload_n 0, 1) := by decide +kernel
theorem dX1_copy_55 : decode cX1_copy 55 = .ok (.getfield 28, 3) := by decide +kernel
theorem dX1_copy_58 : decode cX1_copy 58 = .ok (.iconst 4, 1) := by decide +kernel
theorem dX1_copy_59 : decode cX1_copy 59 = .ok (.iload_n 1, 1) := by decide +kernel
theorem dX1_copy_60 : decode cX1_copy 60 = .ok (.imul, 1) := by decide +kernel
theorem dX1_copy_61 : decode cX1_copy 61 = .ok (.iload_n 3, 1) := by decide +kernel
theorem dX1_copy_62 : decode cX1_copy 62 = .ok (.iadd, 1) := by decide +kernel
theorem dX1_copy_63 : decode cX1_copy 63 = .ok (.iaload, 1) := by decide +kernel
theorem dX1_copy_64 : decode cX1_copy 64 = .ok (.iastore, 1) := by decide +kernel
theorem dX1_copy_65 : decode cX1_copy 65 = .ok (.iinc 3 1, 3) := by decide +kernel
theorem dX1_copy_68 : decode cX1_copy 68 = .ok (.goto (-48), 3) := by decide +kernel
theorem dX1_copy_71 : decode cX1_copy 71 = .ok (.iconst 0, 1) := by decide +kernel
theorem dX1_copy_72 : decode cX1_copy 72 = .ok (.ireturn, 1) := by decide +kernel
abbrev cX1_live : ByteArray := prog_3_method_31_code
def yX1_live : MethodName := ⟨RX1, "live", "()I"⟩
theorem dX1_live_0 : decode cX1_live 0 = .ok (.iconst 0, 1) := by decide +kernel
theorem dX1_live_1 : decode cX1_live 1 = .ok (.istore_n 1, 1) := by decide +kernel
theorem dX1_live_2 : decode cX1_live 2 = .ok (.iload_n 1, 1) := by decide +kernel
theorem dX1_live_3 : decode cX1_live 3 = .ok (.bipush 24, 2) := by decide +kernel
theorem dX1_live_5 : decode cX1_live 5 = .ok (.if_icmp .ge 16, 3) := by decide +kernel
theorem dX1_live_8 : decode cX1_live 8 = .ok (.aload_n 0, 1) := by decide +kernel
theorem dX1_live_9 : decode cX1_live 9 = .ok (.getfield 40, 3) := by decide +kernel
theorem dX1_live_12 : decode cX1_live 12 = .ok (.iload_n 1, 1) := by decide +kernel
theorem dX1_live_13 : decode cX1_live 13 = .ok (.iconst 0, 1) := by decide +kernel
theorem dX1_live_14 : decode cX1_live 14 = .ok (.bastore, 1) := by decide +kernel
theorem dX1_live_15 : decode cX1_live 15 = .ok (.iinc 1 1, 3) := by decide +kernel
theorem dX1_live_18 : decode cX1_live 18 = .ok (.goto (-16), 3) := by decide +kernel
theorem dX1_live_21 : decode cX1_live 21 = .ok (.iconst 0, 1) := by decide +kernel
theorem dX1_live_22 : decode cX1_live 22 = .ok (.istore_n 1, 1) := by decide +kernel
theorem dX1_live_23 : decode cX1_live 23 = .ok (.iload_n 1, 1) := by decide +kernel
theorem dX1_live_24 : decode cX1_live 24 = .ok (.aload_n 0, 1) := by decide +kernel
theorem dX1_live_25 : decode cX1_live 25 = .ok (.getfield 59, 3) := by decide +kernel
theorem dX1_live_28 : decode cX1_live 28 = .ok (.if_icmp .ge 27, 3) := by decide +kernel
theorem dX1_live_31 : decode cX1_live 31 = .ok (.iload_n 1, 1) := by decide +kernel
theorem dX1_live_32 : decode cX1_live 32 = .ok (.bipush 8, 2) := by decide +kernel
theorem dX1_live_34 : decode cX1_live 34 = .ok (.if_icmp .ge 21, 3) := by decide +kernel
theorem dX1_live_37 : decode cX1_live 37 = .ok (.aload_n 0, 1) := by decide +kernel
theorem dX1_live_38 : decode cX1_live 38 = .ok (.getfield 40, 3) := by decide +kernel
theorem dX1_live_41 : decode cX1_live 41 = .ok (.aload_n 0, 1) := by decide +kernel
theorem dX1_live_42 : decode cX1_live 42 = .ok (.getfield 19, 3) := by decide +kernel
theorem dX1_live_45 : decode cX1_live 45 = .ok (.iload_n 1, 1) := by decide +kernel
theorem dX1_live_46 : decode cX1_live 46 = .ok (.iaload, 1) := by decide +kernel
theorem dX1_live_47 : decode cX1_live 47 = .ok (.iconst 1, 1) := by decide +kernel
theorem dX1_live_48 : decode cX1_live 48 = .ok (.bastore, 1) := by decide +kernel
theorem dX1_live_49 : decode cX1_live 49 = .ok (.iinc 1 1, 3) := by decide +kernel
theorem dX1_live_52 : decode cX1_live 52 = .ok (.goto (-29), 3) := by decide +kernel
theorem dX1_live_55 : decode cX1_live 55 = .ok (.iconst 0, 1) := by decide +kernel
theorem dX1_live_56 : decode cX1_live 56 = .ok (.istore_n 1, 1) := by decide +kernel
theorem dX1_live_57 : decode cX1_live 57 = .ok (.aload_n 0, 1) := by decide +kernel
theorem dX1_live_58 : decode cX1_live 58 = .ok (.getfield 44, 3) := by decide +kernel
theorem dX1_live_61 : decode cX1_live 61 = .ok (.iconst 1, 1) := by decide +kernel
theorem dX1_live_62 : decode cX1_live 62 = .ok (.isub, 1) := by decide +kernel
theorem dX1_live_63 : decode cX1_live 63 = .ok (.istore_n 2, 1) := by decide +kernel
theorem dX1_live_64 : decode cX1_live 64 = .ok (.iload_n 2, 1) := by decide +kernel
theorem dX1_live_65 : decode cX1_live 65 = .ok (.ifCond .lt 61, 3) := by decide +kernel
theorem dX1_live_68 : decode cX1_live 68 = .ok (.iload_n 2, 1) := by decide +kernel
theorem dX1_live_69 : decode cX1_live 69 = .ok (.bipush 24, 2) := by decide +kernel
theorem dX1_live_71 : decode cX1_live 71 = .ok (.if_icmp .ge 49, 3) := by decide +kernel
theorem dX1_live_74 : decode cX1_live 74 = .ok (.aload_n 0, 1) := by decide +kernel
theorem dX1_live_75 : decode cX1_live 75 = .ok (.getfield 40, 3) := by decide +kernel
theorem dX1_live_78 : decode cX1_live 78 = .ok (.iload_n 2, 1) := by decide +kernel
theorem dX1_live_79 : decode cX1_live 79 = .ok (.baload, 1) := by decide +kernel
theorem dX1_live_80 : decode cX1_live 80 = .ok (.ifCond .eq 40, 3) := by decide +kernel
theorem dX1_live_83 : decode cX1_live 83 = .ok (.iinc 1 1, 3) := by decide +kernel
theorem dX1_live_86 : decode cX1_live 86 = .ok (.aload_n 0, 1) := by decide +kernel
theorem dX1_live_87 : decode cX1_live 87 = .ok (.getfield 7, 3) := by decide +kernel
theorem dX1_live_90 : decode cX1_live 90 = .ok (.iload_n 2, 1) := by decide +kernel
theorem dX1_live_91 : decode cX1_live 91 = .ok (.iaload, 1) := by decide +kernel
theorem dX1_live_92 : decode cX1_live 92 = .ok (.iconst 4, 1) := by decide +kernel
theorem dX1_live_93 : decode cX1_live 93 = .ok (.if_icmp .ge 27, 3) := by decide +kernel
theorem dX1_live_96 : decode cX1_live 96 = .ok (.aload_n 0, 1) := by decide +kernel
theorem dX1_live_97 : decode cX1_live 97 = .ok (.getfield 40, 3) := by decide +kernel
theorem dX1_live_100 : decode cX1_live 100 = .ok (.aload_n 0, 1) := by decide +kernel
theorem dX1_live_101 : decode cX1_live 101 = .ok (.getfield 13, 3) := by decide +kernel
theorem dX1_live_104 : decode cX1_live 104 = .ok (.iload_n 2, 1) := by decide +kernel
theorem dX1_live_105 : decode cX1_live 105 = .ok (.iaload, 1) := by decide +kernel
theorem dX1_live_106 : decode cX1_live 106 = .ok (.iconst 1, 1) := by decide +kernel
theorem dX1_live_107 : decode cX1_live 107 = .ok (.bastore, 1) := by decide +kernel
theorem dX1_live_108 : decode cX1_live 108 = .ok (.aload_n 0, 1) := by decide +kernel
theorem dX1_live_109 : decode cX1_live 109 = .ok (.getfield 40, 3) := by decide +kernel
theorem dX1_live_112 : decode cX1_live 112 = .ok (.aload_n 0, 1) := by decide +kernel
theorem dX1_live_113 : decode cX1_live 113 = .ok (.getfield 16, 3) := by decide +kernel
theorem dX1_live_116 : decode cX1_live 116 = .ok (.iload_n 2, 1) := by decide +kernel
theorem dX1_live_117 : decode cX1_live 117 = .ok (.iaload, 1) := by decide +kernel
theorem dX1_live_118 : decode cX1_live 118 = .ok (.iconst 1, 1) := by decide +kernel
theorem dX1_live_119 : decode cX1_live 119 = .ok (.bastore, 1) := by decide +kernel
theorem dX1_live_120 : decode cX1_live 120 = .ok (.iinc 2 (-1), 3) := by decide +kernel
theorem dX1_live_123 : decode cX1_live 123 = .ok (.goto (-59), 3) := by decide +kernel
theorem dX1_live_126 : decode cX1_live 126 = .ok (.iload_n 1, 1) := by decide +kernel
theorem dX1_live_127 : decode cX1_live 127 = .ok (.ireturn, 1) := by decide +kernel
theorem q19 : (Jvm.Cond.initialized "TapeSamplerModel") ∈ lw_all := lw_g (lw_at lw_m1 2 rfl) rfl
theorem q213 : (Jvm.Cond.instantiable "TapeSamplerModel" (14 : Nat)) ∈ lw_all := lw_g (lw_at lw_m1 196 rfl) rfl
theorem q215 : (Jvm.Cond.instanceMethod ({ cls := "TapeSamplerModel", name := "<init>", desc := "()V" } : Jvm.MethodName)) ∈ lw_all := lw_g (lw_at lw_m1 198 rfl) rfl
theorem q216 : (Jvm.Cond.code ({ cls := "TapeSamplerModel", name := "<init>", desc := "()V" } : Jvm.MethodName) prog_3_method_1_code (1 : Nat) (Option.none : Option Jvm.ClassFile.FieldType)) ∈ lw_all := lw_g (lw_at lw_m1 199 rfl) rfl
theorem q217 : (Jvm.Cond.methodLink "TapeSamplerModel" (1 : Nat) ({ cls := "java/lang/Object", name := "<init>", desc := "()V" } : Jvm.MethodName)) ∈ lw_all := lw_g (lw_at lw_m1 200 rfl) rfl
theorem q218 : (Jvm.Cond.fieldLink "TapeSamplerModel" (44 : Nat) "TapeSamplerModel" "count" "I") ∈ lw_all := lw_g (lw_at lw_m1 201 rfl) rfl
theorem q219 : (Jvm.Cond.fieldLink "TapeSamplerModel" (7 : Nat) "TapeSamplerModel" "kind" "[I") ∈ lw_all := lw_g (lw_at lw_m1 202 rfl) rfl
theorem q220 : (Jvm.Cond.fieldLink "TapeSamplerModel" (13 : Nat) "TapeSamplerModel" "first" "[I") ∈ lw_all := lw_g (lw_at lw_m1 203 rfl) rfl
theorem q221 : (Jvm.Cond.fieldLink "TapeSamplerModel" (16 : Nat) "TapeSamplerModel" "second" "[I") ∈ lw_all := lw_g (lw_at lw_m1 204 rfl) rfl
theorem q222 : (Jvm.Cond.fieldLink "TapeSamplerModel" (59 : Nat) "TapeSamplerModel" "many" "I") ∈ lw_all := lw_g (lw_at lw_m1 205 rfl) rfl
theorem q223 : (Jvm.Cond.fieldLink "TapeSamplerModel" (19 : Nat) "TapeSamplerModel" "node" "[I") ∈ lw_all := lw_g (lw_at lw_m1 206 rfl) rfl
theorem q224 : (Jvm.Cond.fieldLink "TapeSamplerModel" (22 : Nat) "TapeSamplerModel" "weight" "[I") ∈ lw_all := lw_g (lw_at lw_m1 207 rfl) rfl
theorem q225 : (Jvm.Cond.fieldLink "TapeSamplerModel" (65 : Nat) "TapeSamplerModel" "bits" "I") ∈ lw_all := lw_g (lw_at lw_m1 208 rfl) rfl
theorem q226 : (Jvm.Cond.fieldLink "TapeSamplerModel" (25 : Nat) "TapeSamplerModel" "xs" "[I") ∈ lw_all := lw_g (lw_at lw_m1 209 rfl) rfl
theorem q227 : (Jvm.Cond.fieldLink "TapeSamplerModel" (28 : Nat) "TapeSamplerModel" "ms" "[I") ∈ lw_all := lw_g (lw_at lw_m1 210 rfl) rfl
theorem q228 : (Jvm.Cond.fieldLink "TapeSamplerModel" (31 : Nat) "TapeSamplerModel" "value" "[I") ∈ lw_all := lw_g (lw_at lw_m1 211 rfl) rfl
theorem q229 : (Jvm.Cond.fieldLink "TapeSamplerModel" (34 : Nat) "TapeSamplerModel" "rate" "[I") ∈ lw_all := lw_g (lw_at lw_m1 212 rfl) rfl
theorem q230 : (Jvm.Cond.fieldLink "TapeSamplerModel" (37 : Nat) "TapeSamplerModel" "slopes" "[I") ∈ lw_all := lw_g (lw_at lw_m1 213 rfl) rfl
theorem q231 : (Jvm.Cond.fieldLink "TapeSamplerModel" (40 : Nat) "TapeSamplerModel" "used" "[Z") ∈ lw_all := lw_g (lw_at lw_m1 214 rfl) rfl
theorem q232 : (Jvm.Cond.lays "TapeSamplerModel" "TapeSamplerModel" "count" "I") ∈ lw_all := lw_g (lw_at lw_m1 215 rfl) rfl
theorem q233 : (Jvm.Cond.soleField "TapeSamplerModel" "count") ∈ lw_all := lw_g (lw_at lw_m1 216 rfl) rfl
theorem q234 : (Jvm.Cond.lays "TapeSamplerModel" "TapeSamplerModel" "kind" "[I") ∈ lw_all := lw_g (lw_at lw_m1 217 rfl) rfl
theorem q235 : (Jvm.Cond.soleField "TapeSamplerModel" "kind") ∈ lw_all := lw_g (lw_at lw_m1 218 rfl) rfl
theorem q236 : (Jvm.Cond.lays "TapeSamplerModel" "TapeSamplerModel" "first" "[I") ∈ lw_all := lw_g (lw_at lw_m1 219 rfl) rfl
theorem q237 : (Jvm.Cond.soleField "TapeSamplerModel" "first") ∈ lw_all := lw_g (lw_at lw_m1 220 rfl) rfl
theorem q238 : (Jvm.Cond.lays "TapeSamplerModel" "TapeSamplerModel" "second" "[I") ∈ lw_all := lw_g (lw_at lw_m1 221 rfl) rfl
theorem q239 : (Jvm.Cond.soleField "TapeSamplerModel" "second") ∈ lw_all := lw_g (lw_at lw_m1 222 rfl) rfl
theorem q240 : (Jvm.Cond.lays "TapeSamplerModel" "TapeSamplerModel" "many" "I") ∈ lw_all := lw_g (lw_at lw_m1 223 rfl) rfl
theorem q241 : (Jvm.Cond.soleField "TapeSamplerModel" "many") ∈ lw_all := lw_g (lw_at lw_m1 224 rfl) rfl
theorem q242 : (Jvm.Cond.lays "TapeSamplerModel" "TapeSamplerModel" "node" "[I") ∈ lw_all := lw_g (lw_at lw_m1 225 rfl) rfl
theorem q243 : (Jvm.Cond.soleField "TapeSamplerModel" "node") ∈ lw_all := lw_g (lw_at lw_m1 226 rfl) rfl
theorem q244 : (Jvm.Cond.lays "TapeSamplerModel" "TapeSamplerModel" "weight" "[I") ∈ lw_all := lw_g (lw_at lw_m1 227 rfl) rfl
theorem q245 : (Jvm.Cond.soleField "TapeSamplerModel" "weight") ∈ lw_all := lw_g (lw_at lw_m1 228 rfl) rfl
theorem q246 : (Jvm.Cond.lays "TapeSamplerModel" "TapeSamplerModel" "bits" "I") ∈ lw_all := lw_g (lw_at lw_m1 229 rfl) rfl
theorem q247 : (Jvm.Cond.soleField "TapeSamplerModel" "bits") ∈ lw_all := lw_g (lw_at lw_m1 230 rfl) rfl
theorem q248 : (Jvm.Cond.lays "TapeSamplerModel" "TapeSamplerModel" "xs" "[I") ∈ lw_all := lw_g (lw_at lw_m1 231 rfl) rfl
theorem q249 : (Jvm.Cond.soleField "TapeSamplerModel" "xs") ∈ lw_all := lw_g (lw_at lw_m1 232 rfl) rfl
theorem q250 : (Jvm.Cond.lays "TapeSamplerModel" "TapeSamplerModel" "ms" "[I") ∈ lw_all := lw_g (lw_at lw_m1 233 rfl) rfl
theorem q251 : (Jvm.Cond.soleField "TapeSamplerModel" "ms") ∈ lw_all := lw_g (lw_at lw_m1 234 rfl) rfl
theorem q252 : (Jvm.Cond.lays "TapeSamplerModel" "TapeSamplerModel" "value" "[I") ∈ lw_all := lw_g (lw_at lw_m1 235 rfl) rfl
theorem q253 : (Jvm.Cond.soleField "TapeSamplerModel" "value") ∈ lw_all := lw_g (lw_at lw_m1 236 rfl) rfl
theorem q254 : (Jvm.Cond.lays "TapeSamplerModel" "TapeSamplerModel" "rate" "[I") ∈ lw_all := lw_g (lw_at lw_m1 237 rfl) rfl
theorem q255 : (Jvm.Cond.soleField "TapeSamplerModel" "rate") ∈ lw_all := lw_g (lw_at lw_m1 238 rfl) rfl
theorem q256 : (Jvm.Cond.lays "TapeSamplerModel" "TapeSamplerModel" "slopes" "[I") ∈ lw_all := lw_g (lw_at lw_m1 239 rfl) rfl
theorem q257 : (Jvm.Cond.soleField "TapeSamplerModel" "slopes") ∈ lw_all := lw_g (lw_at lw_m2 0 rfl) rfl
theorem q258 : (Jvm.Cond.lays "TapeSamplerModel" "TapeSamplerModel" "used" "[Z") ∈ lw_all := lw_g (lw_at lw_m2 1 rfl) rfl
theorem q259 : (Jvm.Cond.soleField "TapeSamplerModel" "used") ∈ lw_all := lw_g (lw_at lw_m2 2 rfl) rfl
theorem q260 : (Jvm.Cond.superclass "TapeSamplerModel" "java/lang/Object") ∈ lw_all := lw_g (lw_at lw_m2 3 rfl) rfl
theorem q262 : (Jvm.Cond.instanceMethod ({ cls := "TapeSamplerModel", name := "parameter", desc := "(I)I" } : Jvm.MethodName)) ∈ lw_all := lw_g (lw_at lw_m2 5 rfl) rfl
theorem q263 : (Jvm.Cond.selects "TapeSamplerModel" ({ cls := "TapeSamplerModel", name := "parameter", desc := "(I)I" } : Jvm.MethodName) ({ cls := "TapeSamplerModel", name := "parameter", desc := "(I)I" } : Jvm.MethodName)) ∈ lw_all := lw_g (lw_at lw_m2 6 rfl) rfl
theorem q264 : (Jvm.Cond.code ({ cls := "TapeSamplerModel", name := "parameter", desc := "(I)I" } : Jvm.MethodName) prog_3_method_6_code (2 : Nat) (Option.some Jvm.ClassFile.FieldType.int)) ∈ lw_all := lw_g (lw_at lw_m2 7 rfl) rfl
theorem q265 : (Jvm.Cond.methodLink "TapeSamplerModel" (48 : Nat) ({ cls := "TapeSamplerModel", name := "badParameter", desc := "(I)Z" } : Jvm.MethodName)) ∈ lw_all := lw_g (lw_at lw_m2 8 rfl) rfl
theorem q266 : (Jvm.Cond.privateMethod ({ cls := "TapeSamplerModel", name := "badParameter", desc := "(I)Z" } : Jvm.MethodName)) ∈ lw_tbl := lw_at lw_m2 9 rfl
theorem q267 : (Jvm.Cond.instanceMethod ({ cls := "TapeSamplerModel", name := "badParameter", desc := "(I)Z" } : Jvm.MethodName)) ∈ lw_all := lw_g (lw_at lw_m2 10 rfl) rfl
theorem q268 : (Jvm.Cond.code ({ cls := "TapeSamplerModel", name := "badParameter", desc := "(I)Z" } : Jvm.MethodName) prog_3_method_3_code (2 : Nat) (Option.some Jvm.ClassFile.FieldType.boolean)) ∈ lw_all := lw_g (lw_at lw_m2 11 rfl) rfl
theorem q269 : (Jvm.Cond.methodLink "TapeSamplerModel" (52 : Nat) ({ cls := "TapeSamplerModel", name := "make", desc := "(III)I" } : Jvm.MethodName)) ∈ lw_all := lw_g (lw_at lw_m2 12 rfl) rfl
theorem q270 : (Jvm.Cond.privateMethod ({ cls := "TapeSamplerModel", name := "make", desc := "(III)I" } : Jvm.MethodName)) ∈ lw_tbl := lw_at lw_m2 13 rfl
theorem q271 : (Jvm.Cond.instanceMethod ({ cls := "TapeSamplerModel", name := "make", desc := "(III)I" } : Jvm.MethodName)) ∈ lw_all := lw_g (lw_at lw_m2 14 rfl) rfl
theorem q272 : (Jvm.Cond.code ({ cls := "TapeSamplerModel", name := "make", desc := "(III)I" } : Jvm.MethodName) prog_3_method_5_code (5 : Nat) (Option.some Jvm.ClassFile.FieldType.int)) ∈ lw_all := lw_g (lw_at lw_m2 15 rfl) rfl
theorem q274 : (Jvm.Cond.instanceMethod ({ cls := "TapeSamplerModel", name := "constant", desc := "(I)I" } : Jvm.MethodName)) ∈ lw_all := lw_g (lw_at lw_m2 17 rfl) rfl
theorem q275 : (Jvm.Cond.selects "TapeSamplerModel" ({ cls := "TapeSamplerModel", name := "constant", desc := "(I)I" } : Jvm.MethodName) ({ cls := "TapeSamplerModel", name := "constant", desc := "(I)I" } : Jvm.MethodName)) ∈ lw_all := lw_g (lw_at lw_m2 18 rfl) rfl
theorem q276 : (Jvm.Cond.code ({ cls := "TapeSamplerModel", name := "constant", desc := "(I)I" } : Jvm.MethodName) prog_3_method_7_code (2 : Nat) (Option.some Jvm.ClassFile.FieldType.int)) ∈ lw_all := lw_g (lw_at lw_m2 19 rfl) rfl
theorem q278 : (Jvm.Cond.instanceMethod ({ cls := "TapeSamplerModel", name := "combine", desc := "(III)I" } : Jvm.MethodName)) ∈ lw_all := lw_g (lw_at lw_m2 21 rfl) rfl
theorem q279 : (Jvm.Cond.selects "TapeSamplerModel" ({ cls := "TapeSamplerModel", name := "combine", desc := "(III)I" } : Jvm.MethodName) ({ cls := "TapeSamplerModel", name := "combine", desc := "(III)I" } : Jvm.MethodName)) ∈ lw_all := lw_g (lw_at lw_m2 22 rfl) rfl
theorem q280 : (Jvm.Cond.code ({ cls := "TapeSamplerModel", name := "combine", desc := "(III)I" } : Jvm.MethodName) prog_3_method_8_code (4 : Nat) (Option.some Jvm.ClassFile.FieldType.int)) ∈ lw_all := lw_g (lw_at lw_m2 23 rfl) rfl
theorem q281 : (Jvm.Cond.methodLink "TapeSamplerModel" (56 : Nat) ({ cls := "TapeSamplerModel", name := "badNode", desc := "(I)Z" } : Jvm.MethodName)) ∈ lw_all := lw_g (lw_at lw_m2 24 rfl) rfl
theorem q282 : (Jvm.Cond.privateMethod ({ cls := "TapeSamplerModel", name := "badNode", desc := "(I)Z" } : Jvm.MethodName)) ∈ lw_tbl := lw_at lw_m2 25 rfl
theorem q283 : (Jvm.Cond.instanceMethod ({ cls := "TapeSamplerModel", name := "badNode", desc := "(I)Z" } : Jvm.MethodName)) ∈ lw_all := lw_g (lw_at lw_m2 26 rfl) rfl
theorem q284 : (Jvm.Cond.code ({ cls := "TapeSamplerModel", name := "badNode", desc := "(I)Z" } : Jvm.MethodName) prog_3_method_4_code (2 : Nat) (Option.some Jvm.ClassFile.FieldType.boolean)) ∈ lw_all := lw_g (lw_at lw_m2 27 rfl) rfl
theorem q286 : (Jvm.Cond.instanceMethod ({ cls := "TapeSamplerModel", name := "square", desc := "(I)I" } : Jvm.MethodName)) ∈ lw_all := lw_g (lw_at lw_m2 29 rfl) rfl
theorem q287 : (Jvm.Cond.selects "TapeSamplerModel" ({ cls := "TapeSamplerModel", name := "square", desc := "(I)I" } : Jvm.MethodName) ({ cls := "TapeSamplerModel", name := "square", desc := "(I)I" } : Jvm.MethodName)) ∈ lw_all := lw_g (lw_at lw_m2 30 rfl) rfl
theorem q288 : (Jvm.Cond.code ({ cls := "TapeSamplerModel", name := "square", desc := "(I)I" } : Jvm.MethodName) prog_3_method_9_code (2 : Nat) (Option.some Jvm.ClassFile.FieldType.int)) ∈ lw_all := lw_g (lw_at lw_m2 31 rfl) rfl
theorem q290 : (Jvm.Cond.instanceMethod ({ cls := "TapeSamplerModel", name := "term", desc := "(II)I" } : Jvm.MethodName)) ∈ lw_all := lw_g (lw_at lw_m2 33 rfl) rfl
theorem q291 : (Jvm.Cond.selects "TapeSamplerModel" ({ cls := "TapeSamplerModel", name := "term", desc := "(II)I" } : Jvm.MethodName) ({ cls := "TapeSamplerModel", name := "term", desc := "(II)I" } : Jvm.MethodName)) ∈ lw_all := lw_g (lw_at lw_m2 34 rfl) rfl
theorem q292 : (Jvm.Cond.code ({ cls := "TapeSamplerModel", name := "term", desc := "(II)I" } : Jvm.MethodName) prog_3_method_10_code (4 : Nat) (Option.some Jvm.ClassFile.FieldType.int)) ∈ lw_all := lw_g (lw_at lw_m2 35 rfl) rfl
theorem q294 : (Jvm.Cond.instanceMethod ({ cls := "TapeSamplerModel", name := "clear", desc := "()I" } : Jvm.MethodName)) ∈ lw_all := lw_g (lw_at lw_m2 37 rfl) rfl
theorem q295 : (Jvm.Cond.selects "TapeSamplerModel" ({ cls := "TapeSamplerModel", name := "clear", desc := "()I" } : Jvm.MethodName) ({ cls := "TapeSamplerModel", name := "clear", desc := "()I" } : Jvm.MethodName)) ∈ lw_all := lw_g (lw_at lw_m2 38 rfl) rfl
theorem q296 : (Jvm.Cond.code ({ cls := "TapeSamplerModel", name := "clear", desc := "()I" } : Jvm.MethodName) prog_3_method_11_code (2 : Nat) (Option.some Jvm.ClassFile.FieldType.int)) ∈ lw_all := lw_g (lw_at lw_m2 39 rfl) rfl
theorem q298 : (Jvm.Cond.instanceMethod ({ cls := "TapeSamplerModel", name := "nodes", desc := "()I" } : Jvm.MethodName)) ∈ lw_all := lw_g (lw_at lw_m2 41 rfl) rfl
theorem q299 : (Jvm.Cond.selects "TapeSamplerModel" ({ cls := "TapeSamplerModel", name := "nodes", desc := "()I" } : Jvm.MethodName) ({ cls := "TapeSamplerModel", name := "nodes", desc := "()I" } : Jvm.MethodName)) ∈ lw_all := lw_g (lw_at lw_m2 42 rfl) rfl
theorem q300 : (Jvm.Cond.code ({ cls := "TapeSamplerModel", name := "nodes", desc := "()I" } : Jvm.MethodName) prog_3_method_12_code (1 : Nat) (Option.some Jvm.ClassFile.FieldType.int)) ∈ lw_all := lw_g (lw_at lw_m2 43 rfl) rfl
theorem q302 : (Jvm.Cond.instanceMethod ({ cls := "TapeSamplerModel", name := "terms", desc := "()I" } : Jvm.MethodName)) ∈ lw_all := lw_g (lw_at lw_m2 45 rfl) rfl
theorem q303 : (Jvm.Cond.selects "TapeSamplerModel" ({ cls := "TapeSamplerModel", name := "terms", desc := "()I" } : Jvm.MethodName) ({ cls := "TapeSamplerModel", name := "terms", desc := "()I" } : Jvm.MethodName)) ∈ lw_all := lw_g (lw_at lw_m2 46 rfl) rfl
theorem q304 : (Jvm.Cond.code ({ cls := "TapeSamplerModel", name := "terms", desc := "()I" } : Jvm.MethodName) prog_3_method_13_code (1 : Nat) (Option.some Jvm.ClassFile.FieldType.int)) ∈ lw_all := lw_g (lw_at lw_m2 47 rfl) rfl
theorem q306 : (Jvm.Cond.instanceMethod ({ cls := "TapeSamplerModel", name := "place", desc := "(III)I" } : Jvm.MethodName)) ∈ lw_all := lw_g (lw_at lw_m2 49 rfl) rfl
theorem q307 : (Jvm.Cond.selects "TapeSamplerModel" ({ cls := "TapeSamplerModel", name := "place", desc := "(III)I" } : Jvm.MethodName) ({ cls := "TapeSamplerModel", name := "place", desc := "(III)I" } : Jvm.MethodName)) ∈ lw_all := lw_g (lw_at lw_m2 50 rfl) rfl
theorem q308 : (Jvm.Cond.code ({ cls := "TapeSamplerModel", name := "place", desc := "(III)I" } : Jvm.MethodName) prog_3_method_14_code (4 : Nat) (Option.some Jvm.ClassFile.FieldType.int)) ∈ lw_all := lw_g (lw_at lw_m2 51 rfl) rfl
theorem q309 : (Jvm.Cond.methodLink "TapeSamplerModel" (62 : Nat) ({ cls := "TapeSamplerModel", name := "badChain", desc := "(I)Z" } : Jvm.MethodName)) ∈ lw_all := lw_g (lw_at lw_m2 52 rfl) rfl
theorem q310 : (Jvm.Cond.privateMethod ({ cls := "TapeSamplerModel", name := "badChain", desc := "(I)Z" } : Jvm.MethodName)) ∈ lw_tbl := lw_at lw_m2 53 rfl
theorem q311 : (Jvm.Cond.instanceMethod ({ cls := "TapeSamplerModel", name := "badChain", desc := "(I)Z" } : Jvm.MethodName)) ∈ lw_all := lw_g (lw_at lw_m2 54 rfl) rfl
theorem q312 : (Jvm.Cond.code ({ cls := "TapeSamplerModel", name := "badChain", desc := "(I)Z" } : Jvm.MethodName) prog_3_method_2_code (2 : Nat) (Option.some Jvm.ClassFile.FieldType.boolean)) ∈ lw_all := lw_g (lw_at lw_m2 55 rfl) rfl
theorem q314 : (Jvm.Cond.instanceMethod ({ cls := "TapeSamplerModel", name := "push", desc := "(III)I" } : Jvm.MethodName)) ∈ lw_all := lw_g (lw_at lw_m2 57 rfl) rfl
theorem q315 : (Jvm.Cond.selects "TapeSamplerModel" ({ cls := "TapeSamplerModel", name := "push", desc := "(III)I" } : Jvm.MethodName) ({ cls := "TapeSamplerModel", name := "push", desc := "(III)I" } : Jvm.MethodName)) ∈ lw_all := lw_g (lw_at lw_m2 58 rfl) rfl
theorem q316 : (Jvm.Cond.code ({ cls := "TapeSamplerModel", name := "push", desc := "(III)I" } : Jvm.MethodName) prog_3_method_15_code (4 : Nat) (Option.some Jvm.ClassFile.FieldType.int)) ∈ lw_all := lw_g (lw_at lw_m2 59 rfl) rfl
theorem q318 : (Jvm.Cond.instanceMethod ({ cls := "TapeSamplerModel", name := "shift", desc := "(I)I" } : Jvm.MethodName)) ∈ lw_all := lw_g (lw_at lw_m2 61 rfl) rfl
theorem q319 : (Jvm.Cond.selects "TapeSamplerModel" ({ cls := "TapeSamplerModel", name := "shift", desc := "(I)I" } : Jvm.MethodName) ({ cls := "TapeSamplerModel", name := "shift", desc := "(I)I" } : Jvm.MethodName)) ∈ lw_all := lw_g (lw_at lw_m2 62 rfl) rfl
theorem q320 : (Jvm.Cond.code ({ cls := "TapeSamplerModel", name := "shift", desc := "(I)I" } : Jvm.MethodName) prog_3_method_16_code (3 : Nat) (Option.some Jvm.ClassFile.FieldType.int)) ∈ lw_all := lw_g (lw_at lw_m2 63 rfl) rfl
theorem q322 : (Jvm.Cond.instanceMethod ({ cls := "TapeSamplerModel", name := "position", desc := "(II)I" } : Jvm.MethodName)) ∈ lw_all := lw_g (lw_at lw_m2 65 rfl) rfl
theorem q323 : (Jvm.Cond.selects "TapeSamplerModel" ({ cls := "TapeSamplerModel", name := "position", desc := "(II)I" } : Jvm.MethodName) ({ cls := "TapeSamplerModel", name := "position", desc := "(II)I" } : Jvm.MethodName)) ∈ lw_all := lw_g (lw_at lw_m2 66 rfl) rfl
theorem q324 : (Jvm.Cond.code ({ cls := "TapeSamplerModel", name := "position", desc := "(II)I" } : Jvm.MethodName) prog_3_method_17_code (3 : Nat) (Option.some Jvm.ClassFile.FieldType.int)) ∈ lw_all := lw_g (lw_at lw_m2 67 rfl) rfl
theorem q326 : (Jvm.Cond.instanceMethod ({ cls := "TapeSamplerModel", name := "momentum", desc := "(II)I" } : Jvm.MethodName)) ∈ lw_all := lw_g (lw_at lw_m2 69 rfl) rfl
theorem q327 : (Jvm.Cond.selects "TapeSamplerModel" ({ cls := "TapeSamplerModel", name := "momentum", desc := "(II)I" } : Jvm.MethodName) ({ cls := "TapeSamplerModel", name := "momentum", desc := "(II)I" } : Jvm.MethodName)) ∈ lw_all := lw_g (lw_at lw_m2 70 rfl) rfl
theorem q328 : (Jvm.Cond.code ({ cls := "TapeSamplerModel", name := "momentum", desc := "(II)I" } : Jvm.MethodName) prog_3_method_18_code (3 : Nat) (Option.some Jvm.ClassFile.FieldType.int)) ∈ lw_all := lw_g (lw_at lw_m2 71 rfl) rfl
theorem q330 : (Jvm.Cond.instanceMethod ({ cls := "TapeSamplerModel", name := "valueOf", desc := "(II)I" } : Jvm.MethodName)) ∈ lw_all := lw_g (lw_at lw_m2 73 rfl) rfl
theorem q331 : (Jvm.Cond.selects "TapeSamplerModel" ({ cls := "TapeSamplerModel", name := "valueOf", desc := "(II)I" } : Jvm.MethodName) ({ cls := "TapeSamplerModel", name := "valueOf", desc := "(II)I" } : Jvm.MethodName)) ∈ lw_all := lw_g (lw_at lw_m2 74 rfl) rfl
theorem q332 : (Jvm.Cond.code ({ cls := "TapeSamplerModel", name := "valueOf", desc := "(II)I" } : Jvm.MethodName) prog_3_method_22_code (3 : Nat) (Option.some Jvm.ClassFile.FieldType.int)) ∈ lw_all := lw_g (lw_at lw_m2 75 rfl) rfl
theorem q333 : (Jvm.Cond.methodLink "TapeSamplerModel" (68 : Nat) ({ cls := "TapeSamplerModel", name := "work", desc := "(II)V" } : Jvm.MethodName)) ∈ lw_all := lw_g (lw_at lw_m2 76 rfl) rfl
theorem q334 : (Jvm.Cond.privateMethod ({ cls := "TapeSamplerModel", name := "work", desc := "(II)V" } : Jvm.MethodName)) ∈ lw_tbl := lw_at lw_m2 77 rfl
theorem q335 : (Jvm.Cond.instanceMethod ({ cls := "TapeSamplerModel", name := "work", desc := "(II)V" } : Jvm.MethodName)) ∈ lw_all := lw_g (lw_at lw_m2 78 rfl) rfl
theorem q336 : (Jvm.Cond.code ({ cls := "TapeSamplerModel", name := "work", desc := "(II)V" } : Jvm.MethodName) prog_3_method_19_code (6 : Nat) (Option.none : Option Jvm.ClassFile.FieldType)) ∈ lw_all := lw_g (lw_at lw_m2 79 rfl) rfl
theorem q338 : (Jvm.Cond.instanceMethod ({ cls := "TapeSamplerModel", name := "target", desc := "(I)I" } : Jvm.MethodName)) ∈ lw_all := lw_g (lw_at lw_m2 81 rfl) rfl
theorem q339 : (Jvm.Cond.selects "TapeSamplerModel" ({ cls := "TapeSamplerModel", name := "target", desc := "(I)I" } : Jvm.MethodName) ({ cls := "TapeSamplerModel", name := "target", desc := "(I)I" } : Jvm.MethodName)) ∈ lw_all := lw_g (lw_at lw_m2 82 rfl) rfl
theorem q340 : (Jvm.Cond.code ({ cls := "TapeSamplerModel", name := "target", desc := "(I)I" } : Jvm.MethodName) prog_3_method_23_code (2 : Nat) (Option.some Jvm.ClassFile.FieldType.int)) ∈ lw_all := lw_g (lw_at lw_m2 83 rfl) rfl
theorem q341 : (Jvm.Cond.methodLink "TapeSamplerModel" (72 : Nat) ({ cls := "TapeSamplerModel", name := "total", desc := "()I" } : Jvm.MethodName)) ∈ lw_all := lw_g (lw_at lw_m2 84 rfl) rfl
theorem q342 : (Jvm.Cond.privateMethod ({ cls := "TapeSamplerModel", name := "total", desc := "()I" } : Jvm.MethodName)) ∈ lw_tbl := lw_at lw_m2 85 rfl
theorem q343 : (Jvm.Cond.instanceMethod ({ cls := "TapeSamplerModel", name := "total", desc := "()I" } : Jvm.MethodName)) ∈ lw_all := lw_g (lw_at lw_m2 86 rfl) rfl
theorem q344 : (Jvm.Cond.code ({ cls := "TapeSamplerModel", name := "total", desc := "()I" } : Jvm.MethodName) prog_3_method_20_code (3 : Nat) (Option.some Jvm.ClassFile.FieldType.int)) ∈ lw_all := lw_g (lw_at lw_m2 87 rfl) rfl
theorem q346 : (Jvm.Cond.instanceMethod ({ cls := "TapeSamplerModel", name := "slope", desc := "(II)I" } : Jvm.MethodName)) ∈ lw_all := lw_g (lw_at lw_m2 89 rfl) rfl
theorem q347 : (Jvm.Cond.selects "TapeSamplerModel" ({ cls := "TapeSamplerModel", name := "slope", desc := "(II)I" } : Jvm.MethodName) ({ cls := "TapeSamplerModel", name := "slope", desc := "(II)I" } : Jvm.MethodName)) ∈ lw_all := lw_g (lw_at lw_m2 90 rfl) rfl
theorem q348 : (Jvm.Cond.code ({ cls := "TapeSamplerModel", name := "slope", desc := "(II)I" } : Jvm.MethodName) prog_3_method_24_code (3 : Nat) (Option.some Jvm.ClassFile.FieldType.int)) ∈ lw_all := lw_g (lw_at lw_m2 91 rfl) rfl
theorem q349 : (Jvm.Cond.methodLink "TapeSamplerModel" (76 : Nat) ({ cls := "TapeSamplerModel", name := "steepness", desc := "()I" } : Jvm.MethodName)) ∈ lw_all := lw_g (lw_at lw_m2 92 rfl) rfl
theorem q350 : (Jvm.Cond.privateMethod ({ cls := "TapeSamplerModel", name := "steepness", desc := "()I" } : Jvm.MethodName)) ∈ lw_tbl := lw_at lw_m2 93 rfl
theorem q351 : (Jvm.Cond.instanceMethod ({ cls := "TapeSamplerModel", name := "steepness", desc := "()I" } : Jvm.MethodName)) ∈ lw_all := lw_g (lw_at lw_m2 94 rfl) rfl
theorem q352 : (Jvm.Cond.code ({ cls := "TapeSamplerModel", name := "steepness", desc := "()I" } : Jvm.MethodName) prog_3_method_21_code (3 : Nat) (Option.some Jvm.ClassFile.FieldType.int)) ∈ lw_all := lw_g (lw_at lw_m2 95 rfl) rfl
theorem q354 : (Jvm.Cond.instanceMethod ({ cls := "TapeSamplerModel", name := "drift", desc := "(I)I" } : Jvm.MethodName)) ∈ lw_all := lw_g (lw_at lw_m2 97 rfl) rfl
theorem q355 : (Jvm.Cond.selects "TapeSamplerModel" ({ cls := "TapeSamplerModel", name := "drift", desc := "(I)I" } : Jvm.MethodName) ({ cls := "TapeSamplerModel", name := "drift", desc := "(I)I" } : Jvm.MethodName)) ∈ lw_all := lw_g (lw_at lw_m2 98 rfl) rfl
theorem q356 : (Jvm.Cond.code ({ cls := "TapeSamplerModel", name := "drift", desc := "(I)I" } : Jvm.MethodName) prog_3_method_25_code (4 : Nat) (Option.some Jvm.ClassFile.FieldType.int)) ∈ lw_all := lw_g (lw_at lw_m2 99 rfl) rfl
theorem q358 : (Jvm.Cond.instanceMethod ({ cls := "TapeSamplerModel", name := "targetAt", desc := "(III)I" } : Jvm.MethodName)) ∈ lw_all := lw_g (lw_at lw_m2 101 rfl) rfl
theorem q359 : (Jvm.Cond.selects "TapeSamplerModel" ({ cls := "TapeSamplerModel", name := "targetAt", desc := "(III)I" } : Jvm.MethodName) ({ cls := "TapeSamplerModel", name := "targetAt", desc := "(III)I" } : Jvm.MethodName)) ∈ lw_all := lw_g (lw_at lw_m2 102 rfl) rfl
theorem q360 : (Jvm.Cond.code ({ cls := "TapeSamplerModel", name := "targetAt", desc := "(III)I" } : Jvm.MethodName) prog_3_method_26_code (5 : Nat) (Option.some Jvm.ClassFile.FieldType.int)) ∈ lw_all := lw_g (lw_at lw_m2 103 rfl) rfl
theorem q362 : (Jvm.Cond.instanceMethod ({ cls := "TapeSamplerModel", name := "leap", desc := "(II)I" } : Jvm.MethodName)) ∈ lw_all := lw_g (lw_at lw_m2 105 rfl) rfl
theorem q363 : (Jvm.Cond.selects "TapeSamplerModel" ({ cls := "TapeSamplerModel", name := "leap", desc := "(II)I" } : Jvm.MethodName) ({ cls := "TapeSamplerModel", name := "leap", desc := "(II)I" } : Jvm.MethodName)) ∈ lw_all := lw_g (lw_at lw_m2 106 rfl) rfl
theorem q364 : (Jvm.Cond.code ({ cls := "TapeSamplerModel", name := "leap", desc := "(II)I" } : Jvm.MethodName) prog_3_method_28_code (5 : Nat) (Option.some Jvm.ClassFile.FieldType.int)) ∈ lw_all := lw_g (lw_at lw_m2 107 rfl) rfl
theorem q365 : (Jvm.Cond.methodLink "TapeSamplerModel" (79 : Nat) ({ cls := "TapeSamplerModel", name := "kick", desc := "(I)V" } : Jvm.MethodName)) ∈ lw_all := lw_g (lw_at lw_m2 108 rfl) rfl
theorem q366 : (Jvm.Cond.privateMethod ({ cls := "TapeSamplerModel", name := "kick", desc := "(I)V" } : Jvm.MethodName)) ∈ lw_tbl := lw_at lw_m2 109 rfl
theorem q367 : (Jvm.Cond.instanceMethod ({ cls := "TapeSamplerModel", name := "kick", desc := "(I)V" } : Jvm.MethodName)) ∈ lw_all := lw_g (lw_at lw_m2 110 rfl) rfl
theorem q368 : (Jvm.Cond.code ({ cls := "TapeSamplerModel", name := "kick", desc := "(I)V" } : Jvm.MethodName) prog_3_method_27_code (3 : Nat) (Option.none : Option Jvm.ClassFile.FieldType)) ∈ lw_all := lw_g (lw_at lw_m2 111 rfl) rfl
theorem q370 : (Jvm.Cond.instanceMethod ({ cls := "TapeSamplerModel", name := "turn", desc := "(I)I" } : Jvm.MethodName)) ∈ lw_all := lw_g (lw_at lw_m2 113 rfl) rfl
theorem q371 : (Jvm.Cond.selects "TapeSamplerModel" ({ cls := "TapeSamplerModel", name := "turn", desc := "(I)I" } : Jvm.MethodName) ({ cls := "TapeSamplerModel", name := "turn", desc := "(I)I" } : Jvm.MethodName)) ∈ lw_all := lw_g (lw_at lw_m2 114 rfl) rfl
theorem q372 : (Jvm.Cond.code ({ cls := "TapeSamplerModel", name := "turn", desc := "(I)I" } : Jvm.MethodName) prog_3_method_29_code (3 : Nat) (Option.some Jvm.ClassFile.FieldType.int)) ∈ lw_all := lw_g (lw_at lw_m2 115 rfl) rfl
theorem q374 : (Jvm.Cond.instanceMethod ({ cls := "TapeSamplerModel", name := "copy", desc := "(II)I" } : Jvm.MethodName)) ∈ lw_all := lw_g (lw_at lw_m2 117 rfl) rfl
theorem q375 : (Jvm.Cond.selects "TapeSamplerModel" ({ cls := "TapeSamplerModel", name := "copy", desc := "(II)I" } : Jvm.MethodName) ({ cls := "TapeSamplerModel", name := "copy", desc := "(II)I" } : Jvm.MethodName)) ∈ lw_all := lw_g (lw_at lw_m2 118 rfl) rfl
theorem q376 : (Jvm.Cond.code ({ cls := "TapeSamplerModel", name := "copy", desc := "(II)I" } : Jvm.MethodName) prog_3_method_30_code (4 : Nat) (Option.some Jvm.ClassFile.FieldType.int)) ∈ lw_all := lw_g (lw_at lw_m2 119 rfl) rfl
theorem q378 : (Jvm.Cond.instanceMethod ({ cls := "TapeSamplerModel", name := "live", desc := "()I" } : Jvm.MethodName)) ∈ lw_all := lw_g (lw_at lw_m2 121 rfl) rfl
theorem q379 : (Jvm.Cond.selects "TapeSamplerModel" ({ cls := "TapeSamplerModel", name := "live", desc := "()I" } : Jvm.MethodName) ({ cls := "TapeSamplerModel", name := "live", desc := "()I" } : Jvm.MethodName)) ∈ lw_all := lw_g (lw_at lw_m2 122 rfl) rfl
theorem q380 : (Jvm.Cond.code ({ cls := "TapeSamplerModel", name := "live", desc := "()I" } : Jvm.MethodName) prog_3_method_31_code (3 : Nat) (Option.some Jvm.ClassFile.FieldType.int)) ∈ lw_all := lw_g (lw_at lw_m2 123 rfl) rfl
theorem in_X1 : ∀ w ∈ wsX10, w ∈ lw_all := lw_in wsX10 [232, 234, 236, 238, 240, 242, 244, 246, 248, 250, 252, 254, 256, 258] (by decide +kernel) (by decide +kernel)
end
section
set_option maxRecDepth 100000
/-! java/lang/Object -/
def RJ0 : String := "java/lang/Object"
abbrev cJ0_init : ByteArray := object_method_1_code
def yJ0_init : MethodName := ⟨RJ0, "<init>", "()V"⟩
theorem dJ0_init_0 : decode cJ0_init 0 = .ok (.return_, 1) := by decide +kernel
theorem q26 : (Jvm.Cond.instanceMethod ({ cls := "java/lang/Object", name := "<init>", desc := "()V" } : Jvm.MethodName)) ∈ lw_all := lw_g (lw_at lw_m1 9 rfl) rfl
theorem q27 : (Jvm.Cond.code ({ cls := "java/lang/Object", name := "<init>", desc := "()V" } : Jvm.MethodName) object_method_1_code (1 : Nat) (Option.none : Option Jvm.ClassFile.FieldType)) ∈ lw_all := lw_g (lw_at lw_m1 10 rfl) rfl
theorem q77 : (Jvm.Cond.arrayClass Jvm.ClassFile.FieldType.int) ∈ lw_all := lw_g (lw_at lw_m1 60 rfl) rfl
theorem q78 : (Jvm.Cond.arrayClass Jvm.ClassFile.FieldType.boolean) ∈ lw_all := lw_g (lw_at lw_m1 61 rfl) rfl
theorem q17 : (Jvm.Cond.initialized "TapeSamplerLaw") ∈ lw_all := lw_g (lw_at lw_m1 0 rfl) rfl
theorem q20 : (Jvm.Cond.classLink "TapeSamplerLaw" (7 : Nat) "TapeSampler") ∈ lw_all := lw_g (lw_at lw_m1 3 rfl) rfl
theorem q22 : (Jvm.Cond.methodLink "TapeSamplerLaw" (9 : Nat) ({ cls := "TapeSampler", name := "<init>", desc := "()V" } : Jvm.MethodName)) ∈ lw_all := lw_g (lw_at lw_m1 5 rfl) rfl
theorem q79 : (Jvm.Cond.methodLink "TapeSamplerLaw" (13 : Nat) ({ cls := "TapeSampler", name := "parameter", desc := "(I)I" } : Jvm.MethodName)) ∈ lw_all := lw_g (lw_at lw_m1 62 rfl) rfl
theorem q90 : (Jvm.Cond.methodLink "TapeSamplerLaw" (18 : Nat) ({ cls := "TapeSampler", name := "constant", desc := "(I)I" } : Jvm.MethodName)) ∈ lw_all := lw_g (lw_at lw_m1 73 rfl) rfl
theorem q94 : (Jvm.Cond.methodLink "TapeSamplerLaw" (22 : Nat) ({ cls := "TapeSampler", name := "combine", desc := "(III)I" } : Jvm.MethodName)) ∈ lw_all := lw_g (lw_at lw_m1 77 rfl) rfl
theorem q102 : (Jvm.Cond.methodLink "TapeSamplerLaw" (27 : Nat) ({ cls := "TapeSampler", name := "square", desc := "(I)I" } : Jvm.MethodName)) ∈ lw_all := lw_g (lw_at lw_m1 85 rfl) rfl
theorem q106 : (Jvm.Cond.methodLink "TapeSamplerLaw" (31 : Nat) ({ cls := "TapeSampler", name := "term", desc := "(II)I" } : Jvm.MethodName)) ∈ lw_all := lw_g (lw_at lw_m1 89 rfl) rfl
theorem q110 : (Jvm.Cond.methodLink "TapeSamplerLaw" (36 : Nat) ({ cls := "TapeSampler", name := "clear", desc := "()I" } : Jvm.MethodName)) ∈ lw_all := lw_g (lw_at lw_m1 93 rfl) rfl
theorem q114 : (Jvm.Cond.methodLink "TapeSamplerLaw" (41 : Nat) ({ cls := "TapeSampler", name := "nodes", desc := "()I" } : Jvm.MethodName)) ∈ lw_all := lw_g (lw_at lw_m1 97 rfl) rfl
theorem q118 : (Jvm.Cond.methodLink "TapeSamplerLaw" (45 : Nat) ({ cls := "TapeSampler", name := "terms", desc := "()I" } : Jvm.MethodName)) ∈ lw_all := lw_g (lw_at lw_m1 101 rfl) rfl
theorem q122 : (Jvm.Cond.methodLink "TapeSamplerLaw" (49 : Nat) ({ cls := "TapeSampler", name := "place", desc := "(III)I" } : Jvm.MethodName)) ∈ lw_all := lw_g (lw_at lw_m1 105 rfl) rfl
theorem q129 : (Jvm.Cond.methodLink "TapeSamplerLaw" (53 : Nat) ({ cls := "TapeSampler", name := "push", desc := "(III)I" } : Jvm.MethodName)) ∈ lw_all := lw_g (lw_at lw_m1 112 rfl) rfl
theorem q133 : (Jvm.Cond.methodLink "TapeSamplerLaw" (57 : Nat) ({ cls := "TapeSampler", name := "shift", desc := "(I)I" } : Jvm.MethodName)) ∈ lw_all := lw_g (lw_at lw_m1 116 rfl) rfl
theorem q137 : (Jvm.Cond.methodLink "TapeSamplerLaw" (61 : Nat) ({ cls := "TapeSampler", name := "position", desc := "(II)I" } : Jvm.MethodName)) ∈ lw_all := lw_g (lw_at lw_m1 120 rfl) rfl
theorem q141 : (Jvm.Cond.methodLink "TapeSamplerLaw" (65 : Nat) ({ cls := "TapeSampler", name := "momentum", desc := "(II)I" } : Jvm.MethodName)) ∈ lw_all := lw_g (lw_at lw_m1 124 rfl) rfl
theorem q145 : (Jvm.Cond.methodLink "TapeSamplerLaw" (69 : Nat) ({ cls := "TapeSampler", name := "valueOf", desc := "(II)I" } : Jvm.MethodName)) ∈ lw_all := lw_g (lw_at lw_m1 128 rfl) rfl
theorem q153 : (Jvm.Cond.methodLink "TapeSamplerLaw" (73 : Nat) ({ cls := "TapeSampler", name := "target", desc := "(I)I" } : Jvm.MethodName)) ∈ lw_all := lw_g (lw_at lw_m1 136 rfl) rfl
theorem q168 : (Jvm.Cond.methodLink "TapeSamplerLaw" (77 : Nat) ({ cls := "TapeSampler", name := "slope", desc := "(II)I" } : Jvm.MethodName)) ∈ lw_all := lw_g (lw_at lw_m1 151 rfl) rfl
theorem q180 : (Jvm.Cond.methodLink "TapeSamplerLaw" (81 : Nat) ({ cls := "TapeSampler", name := "drift", desc := "(I)I" } : Jvm.MethodName)) ∈ lw_all := lw_g (lw_at lw_m1 163 rfl) rfl
theorem q188 : (Jvm.Cond.methodLink "TapeSamplerLaw" (85 : Nat) ({ cls := "TapeSampler", name := "targetAt", desc := "(III)I" } : Jvm.MethodName)) ∈ lw_all := lw_g (lw_at lw_m1 171 rfl) rfl
theorem q192 : (Jvm.Cond.methodLink "TapeSamplerLaw" (89 : Nat) ({ cls := "TapeSampler", name := "leap", desc := "(II)I" } : Jvm.MethodName)) ∈ lw_all := lw_g (lw_at lw_m1 175 rfl) rfl
theorem q200 : (Jvm.Cond.methodLink "TapeSamplerLaw" (93 : Nat) ({ cls := "TapeSampler", name := "turn", desc := "(I)I" } : Jvm.MethodName)) ∈ lw_all := lw_g (lw_at lw_m1 183 rfl) rfl
theorem q204 : (Jvm.Cond.methodLink "TapeSamplerLaw" (97 : Nat) ({ cls := "TapeSampler", name := "copy", desc := "(II)I" } : Jvm.MethodName)) ∈ lw_all := lw_g (lw_at lw_m1 187 rfl) rfl
theorem q208 : (Jvm.Cond.methodLink "TapeSamplerLaw" (101 : Nat) ({ cls := "TapeSampler", name := "live", desc := "()I" } : Jvm.MethodName)) ∈ lw_all := lw_g (lw_at lw_m1 191 rfl) rfl
theorem q212 : (Jvm.Cond.classLink "TapeSamplerLaw" (10 : Nat) "TapeSamplerModel") ∈ lw_all := lw_g (lw_at lw_m1 195 rfl) rfl
theorem q214 : (Jvm.Cond.methodLink "TapeSamplerLaw" (12 : Nat) ({ cls := "TapeSamplerModel", name := "<init>", desc := "()V" } : Jvm.MethodName)) ∈ lw_all := lw_g (lw_at lw_m1 197 rfl) rfl
theorem q261 : (Jvm.Cond.methodLink "TapeSamplerLaw" (17 : Nat) ({ cls := "TapeSamplerModel", name := "parameter", desc := "(I)I" } : Jvm.MethodName)) ∈ lw_all := lw_g (lw_at lw_m2 4 rfl) rfl
theorem q273 : (Jvm.Cond.methodLink "TapeSamplerLaw" (21 : Nat) ({ cls := "TapeSamplerModel", name := "constant", desc := "(I)I" } : Jvm.MethodName)) ∈ lw_all := lw_g (lw_at lw_m2 16 rfl) rfl
theorem q277 : (Jvm.Cond.methodLink "TapeSamplerLaw" (26 : Nat) ({ cls := "TapeSamplerModel", name := "combine", desc := "(III)I" } : Jvm.MethodName)) ∈ lw_all := lw_g (lw_at lw_m2 20 rfl) rfl
theorem q285 : (Jvm.Cond.methodLink "TapeSamplerLaw" (30 : Nat) ({ cls := "TapeSamplerModel", name := "square", desc := "(I)I" } : Jvm.MethodName)) ∈ lw_all := lw_g (lw_at lw_m2 28 rfl) rfl
theorem q289 : (Jvm.Cond.methodLink "TapeSamplerLaw" (35 : Nat) ({ cls := "TapeSamplerModel", name := "term", desc := "(II)I" } : Jvm.MethodName)) ∈ lw_all := lw_g (lw_at lw_m2 32 rfl) rfl
theorem q293 : (Jvm.Cond.methodLink "TapeSamplerLaw" (40 : Nat) ({ cls := "TapeSamplerModel", name := "clear", desc := "()I" } : Jvm.MethodName)) ∈ lw_all := lw_g (lw_at lw_m2 36 rfl) rfl
theorem q297 : (Jvm.Cond.methodLink "TapeSamplerLaw" (44 : Nat) ({ cls := "TapeSamplerModel", name := "nodes", desc := "()I" } : Jvm.MethodName)) ∈ lw_all := lw_g (lw_at lw_m2 40 rfl) rfl
theorem q301 : (Jvm.Cond.methodLink "TapeSamplerLaw" (48 : Nat) ({ cls := "TapeSamplerModel", name := "terms", desc := "()I" } : Jvm.MethodName)) ∈ lw_all := lw_g (lw_at lw_m2 44 rfl) rfl
theorem q305 : (Jvm.Cond.methodLink "TapeSamplerLaw" (52 : Nat) ({ cls := "TapeSamplerModel", name := "place", desc := "(III)I" } : Jvm.MethodName)) ∈ lw_all := lw_g (lw_at lw_m2 48 rfl) rfl
theorem q313 : (Jvm.Cond.methodLink "TapeSamplerLaw" (56 : Nat) ({ cls := "TapeSamplerModel", name := "push", desc := "(III)I" } : Jvm.MethodName)) ∈ lw_all := lw_g (lw_at lw_m2 56 rfl) rfl
theorem q317 : (Jvm.Cond.methodLink "TapeSamplerLaw" (60 : Nat) ({ cls := "TapeSamplerModel", name := "shift", desc := "(I)I" } : Jvm.MethodName)) ∈ lw_all := lw_g (lw_at lw_m2 60 rfl) rfl
theorem q321 : (Jvm.Cond.methodLink "TapeSamplerLaw" (64 : Nat) ({ cls := "TapeSamplerModel", name := "position", desc := "(II)I" } : Jvm.MethodName)) ∈ lw_all := lw_g (lw_at lw_m2 64 rfl) rfl
theorem q325 : (Jvm.Cond.methodLink "TapeSamplerLaw" (68 : Nat) ({ cls := "TapeSamplerModel", name := "momentum", desc := "(II)I" } : Jvm.MethodName)) ∈ lw_all := lw_g (lw_at lw_m2 68 rfl) rfl
theorem q329 : (Jvm.Cond.methodLink "TapeSamplerLaw" (72 : Nat) ({ cls := "TapeSamplerModel", name := "valueOf", desc := "(II)I" } : Jvm.MethodName)) ∈ lw_all := lw_g (lw_at lw_m2 72 rfl) rfl
theorem q337 : (Jvm.Cond.methodLink "TapeSamplerLaw" (76 : Nat) ({ cls := "TapeSamplerModel", name := "target", desc := "(I)I" } : Jvm.MethodName)) ∈ lw_all := lw_g (lw_at lw_m2 80 rfl) rfl
theorem q345 : (Jvm.Cond.methodLink "TapeSamplerLaw" (80 : Nat) ({ cls := "TapeSamplerModel", name := "slope", desc := "(II)I" } : Jvm.MethodName)) ∈ lw_all := lw_g (lw_at lw_m2 88 rfl) rfl
theorem q353 : (Jvm.Cond.methodLink "TapeSamplerLaw" (84 : Nat) ({ cls := "TapeSamplerModel", name := "drift", desc := "(I)I" } : Jvm.MethodName)) ∈ lw_all := lw_g (lw_at lw_m2 96 rfl) rfl
theorem q357 : (Jvm.Cond.methodLink "TapeSamplerLaw" (88 : Nat) ({ cls := "TapeSamplerModel", name := "targetAt", desc := "(III)I" } : Jvm.MethodName)) ∈ lw_all := lw_g (lw_at lw_m2 100 rfl) rfl
theorem q361 : (Jvm.Cond.methodLink "TapeSamplerLaw" (92 : Nat) ({ cls := "TapeSamplerModel", name := "leap", desc := "(II)I" } : Jvm.MethodName)) ∈ lw_all := lw_g (lw_at lw_m2 104 rfl) rfl
theorem q369 : (Jvm.Cond.methodLink "TapeSamplerLaw" (96 : Nat) ({ cls := "TapeSamplerModel", name := "turn", desc := "(I)I" } : Jvm.MethodName)) ∈ lw_all := lw_g (lw_at lw_m2 112 rfl) rfl
theorem q373 : (Jvm.Cond.methodLink "TapeSamplerLaw" (100 : Nat) ({ cls := "TapeSamplerModel", name := "copy", desc := "(II)I" } : Jvm.MethodName)) ∈ lw_all := lw_g (lw_at lw_m2 116 rfl) rfl
theorem q377 : (Jvm.Cond.methodLink "TapeSamplerLaw" (104 : Nat) ({ cls := "TapeSamplerModel", name := "live", desc := "()I" } : Jvm.MethodName)) ∈ lw_all := lw_g (lw_at lw_m2 120 rfl) rfl
end
section
set_option maxRecDepth 100000
/-- a state of either class: field k, place j (an int field: place 0) -/
abbrev tzS : Type := Nat → Nat → Int32
/-- a number as an index -/
def tzix (x : Int32) : Nat := x.toNatClampNeg
/-- x is the index i, within n -/
def tzat (x : Int32) (i n : Nat) : Prop := x = nI i ∧ i < n
abbrev vwCl : List vw_C := [(RX0, TX0, 16), (RX1, TX1, 14)]
def tzC (p : Program) (s : State) (m : MethodId) (args : Array Value) (cd : Code) (cc : ByteArray) (nL : Nat) (own : String) (D : va_G) (ty : List (ClassId × FieldType)) : Prop := CallFix p m cd cc nL s args lw_all own ∧ va_K D vwCl ty s
def tzY (D : va_G) (A : Nat → Prop) (H0 : Heap) (w : va_W) (H : Heap) (locs : List Loc) : Prop := va_P D vwCl w H ∧ va_D A w ∧ va_S A H0 H locs
theorem tzix_nI {i : Nat} (h : i < 2 ^ 31) : tzix (nI i) = i := nI_clamp h
theorem tzat_nI {i n : Nat} (h : i < n) : tzat (nI i) i n := ⟨rfl, h⟩
theorem tzat_ix {x : Int32} {i n : Nat} (h : x = nI i) (hi : i < n) (hn : n ≤ 2 ^ 31) : tzat x (tzix x) n := by
  subst h
  rw [tzix_nI (by omega)]
  exact ⟨rfl, hi⟩
theorem tzat.le {x : Int32} {i n n' : Nat} (h : tzat x i n) (hn : n ≤ n') : tzat x i n' := ⟨h.1, by have := h.2; omega⟩
theorem tzat.ix {x : Int32} {i n : Nat} (h : tzat x i n) (hn : n ≤ 2 ^ 31) : tzix x = i := by
  rw [h.1]
  exact tzix_nI (by have := h.2; omega)
theorem tz_inc (i : Nat) : nI i + Int32.ofInt 1 = nI (i + 1) := nI_1 i
theorem tz_dec (x : Int32) : x + Int32.ofInt (-1) = x - 1 := by
  rw [show Int32.ofInt (-1) = -1 from by decide +kernel]
  exact (Int32.sub_eq_add_neg x 1).symm
/-- one place of one array; one int field -/
def tzst (u : tzS) (k i : Nat) (x : Int32) : tzS := va_up u k (upd (u k) i x)
def tzpt (u : tzS) (k : Nat) (x : Int32) : tzS := va_up u k (fun _ => x)
/-- the room of a method that calls d deep -/
abbrev tzR (d : Nat) : Room := { frames := d, cells := 0, slots := 0, locals := 30 * d }
/-! the world of class 0 -/
def tzsz0 (k : Nat) : Nat := match k with
  | 0 => 24
  | 1 => 24
  | 2 => 24
  | 3 => 8
  | 4 => 8
  | 5 => 12
  | 6 => 12
  | 7 => 24
  | 8 => 24
  | 9 => 24
  | 10 => 24
  | 11 => 4
  | _ => 0
def tzps0 (k : Nat) : Nat := match k with
  | 0 => 1
  | 1 => 2
  | 2 => 3
  | 3 => 4
  | 4 => 5
  | 5 => 6
  | 6 => 7
  | 7 => 8
  | 8 => 9
  | 9 => 10
  | 10 => 11
  | 11 => 12
  | _ => 0
def tzf0 (a : Nat → Nat) (u : tzS) : List Value := [.ref (a 0), .ref (a 1), .ref (a 2), .ref (a 3), .ref (a 4), .ref (a 5), .ref (a 6), .ref (a 7), .ref (a 8), .ref (a 9), .ref (a 10), .ref (a 11), .int (u 12 0), .int (u 13 0), .int (u 14 0), .int (u 15 0)]
def wX0 (a : Nat → Nat) (c : Nat → ClassId) (u : tzS) : va_W := [(a 16, .inr (0, tzf0 a u)), (a 0, .inl (c 0, 24, .inl (u 0))), (a 1, .inl (c 1, 24, .inl (u 1))), (a 2, .inl (c 2, 24, .inl (u 2))), (a 3, .inl (c 3, 8, .inl (u 3))), (a 4, .inl (c 4, 8, .inl (u 4))), (a 5, .inl (c 5, 12, .inl (u 5))), (a 6, .inl (c 6, 12, .inl (u 6))), (a 7, .inl (c 7, 24, .inl (u 7))), (a 8, .inl (c 8, 24, .inl (u 8))), (a 9, .inl (c 9, 24, .inl (u 9))), (a 10, .inl (c 10, 24, .inl (u 10))), (a 11, .inl (c 11, 4, .inl (u 11)))]
def tX0 (c : Nat → ClassId) : List (ClassId × FieldType) := [(c 0, .int), (c 1, .int), (c 2, .int), (c 3, .int), (c 4, .int), (c 5, .int), (c 6, .int), (c 7, .int), (c 8, .int), (c 9, .int), (c 10, .boolean), (c 11, .int)]
abbrev tzA0 (k : Nat) : Prop := k = 0 ∨ k = 1 ∨ k = 2 ∨ k = 3 ∨ k = 4 ∨ k = 5 ∨ k = 6 ∨ k = 7 ∨ k = 8 ∨ k = 9 ∨ k = 10 ∨ k = 11
abbrev tzI0 (k : Nat) : Prop := k = 0 ∨ k = 1 ∨ k = 2 ∨ k = 3 ∨ k = 4 ∨ k = 5 ∨ k = 6 ∨ k = 7 ∨ k = 8 ∨ k = 9 ∨ k = 11
abbrev tzJ0 (k : Nat) : Prop := k = 12 ∨ k = 13 ∨ k = 14
abbrev tzL0 (k : Nat) : Prop := k = 12 ∨ k = 13 ∨ k = 14 ∨ k = 15
theorem tzIA0 {k : Nat} (hk : tzI0 k) : tzA0 k := by rcases hk with rfl | rfl | rfl | rfl | rfl | rfl | rfl | rfl | rfl | rfl | rfl <;> decide
theorem tzsz0_31 {k : Nat} (hk : tzA0 k) : tzsz0 k < 2 ^ 31 := by rcases hk with rfl | rfl | rfl | rfl | rfl | rfl | rfl | rfl | rfl | rfl | rfl | rfl <;> decide
theorem w0_at (a : Nat → Nat) (c : Nat → ClassId) (u : tzS) {k : Nat} (hk : tzA0 k) : (wX0 a c u)[tzps0 k]? = some (a k, .inl (c k, tzsz0 k, .inl (u k))) := by rcases hk with rfl | rfl | rfl | rfl | rfl | rfl | rfl | rfl | rfl | rfl | rfl | rfl <;> rfl
theorem w0_set (a : Nat → Nat) (c : Nat → ClassId) (u : tzS) (f : Nat → Int32) {k : Nat} (hk : tzA0 k) : (wX0 a c u).set (tzps0 k) (a k, .inl (c k, tzsz0 k, .inl f)) = wX0 a c (va_up u k f) := by rcases hk with rfl | rfl | rfl | rfl | rfl | rfl | rfl | rfl | rfl | rfl | rfl | rfl <;> rfl
theorem t0_at (c : Nat → ClassId) {k : Nat} (hk : tzI0 k) : (tX0 c)[tzps0 k - 1]? = some (c k, .int) := by rcases hk with rfl | rfl | rfl | rfl | rfl | rfl | rfl | rfl | rfl | rfl | rfl <;> rfl
theorem f0_ref (a : Nat → Nat) (u : tzS) {k : Nat} (hk : tzA0 k) : (tzf0 a u)[k]? = some (.ref (a k)) := by rcases hk with rfl | rfl | rfl | rfl | rfl | rfl | rfl | rfl | rfl | rfl | rfl | rfl <;> rfl
theorem f0_int (a : Nat → Nat) (u : tzS) {k : Nat} (hk : tzL0 k) : (tzf0 a u)[k]? = some (.int (u k 0)) := by rcases hk with rfl | rfl | rfl | rfl <;> rfl
theorem f0_set (a : Nat → Nat) (c : Nat → ClassId) (u : tzS) (x : Int32) {k : Nat} (hk : tzL0 k) : (wX0 a c u).set 0 (a 16, .inr (0, (tzf0 a u).set k (.int x))) = wX0 a c (va_up u k (fun _ => x)) := by rcases hk with rfl | rfl | rfl | rfl <;> rfl
theorem tzlt0 {k : Nat} (hk : tzA0 k) : k < 16 := by rcases hk with rfl | rfl | rfl | rfl | rfl | rfl | rfl | rfl | rfl | rfl | rfl | rfl <;> decide
theorem tzltL0 {k : Nat} (hk : tzL0 k) : k < 16 := by rcases hk with rfl | rfl | rfl | rfl <;> decide
theorem tzfin0 {k : Nat} (hk : tzJ0 k) : (TX0 k).2.2.2 = false ∧ parseFieldDescriptor (TX0 k).2.2.1 = some .int := by rcases hk with rfl | rfl | rfl <;> decide +kernel
theorem tzJL0 {k : Nat} (hk : tzJ0 k) : tzL0 k := by rcases hk with rfl | rfl | rfl <;> decide
/-! the world of class 1 -/
def tzsz1 (k : Nat) : Nat := match k with
  | 1 => 24
  | 2 => 24
  | 3 => 24
  | 5 => 8
  | 6 => 8
  | 8 => 12
  | 9 => 12
  | 10 => 24
  | 11 => 24
  | 12 => 4
  | 13 => 24
  | _ => 0
def tzps1 (k : Nat) : Nat := match k with
  | 1 => 1
  | 2 => 2
  | 3 => 3
  | 5 => 4
  | 6 => 5
  | 8 => 6
  | 9 => 7
  | 10 => 8
  | 11 => 9
  | 12 => 10
  | 13 => 11
  | _ => 0
def tzf1 (a : Nat → Nat) (u : tzS) : List Value := [.int (u 0 0), .ref (a 1), .ref (a 2), .ref (a 3), .int (u 4 0), .ref (a 5), .ref (a 6), .int (u 7 0), .ref (a 8), .ref (a 9), .ref (a 10), .ref (a 11), .ref (a 12), .ref (a 13)]
def wX1 (a : Nat → Nat) (c : Nat → ClassId) (u : tzS) : va_W := [(a 14, .inr (1, tzf1 a u)), (a 1, .inl (c 1, 24, .inl (u 1))), (a 2, .inl (c 2, 24, .inl (u 2))), (a 3, .inl (c 3, 24, .inl (u 3))), (a 5, .inl (c 5, 8, .inl (u 5))), (a 6, .inl (c 6, 8, .inl (u 6))), (a 8, .inl (c 8, 12, .inl (u 8))), (a 9, .inl (c 9, 12, .inl (u 9))), (a 10, .inl (c 10, 24, .inl (u 10))), (a 11, .inl (c 11, 24, .inl (u 11))), (a 12, .inl (c 12, 4, .inl (u 12))), (a 13, .inl (c 13, 24, .inl (u 13)))]
def tX1 (c : Nat → ClassId) : List (ClassId × FieldType) := [(c 1, .int), (c 2, .int), (c 3, .int), (c 5, .int), (c 6, .int), (c 8, .int), (c 9, .int), (c 10, .int), (c 11, .int), (c 12, .int), (c 13, .boolean)]
abbrev tzA1 (k : Nat) : Prop := k = 1 ∨ k = 2 ∨ k = 3 ∨ k = 5 ∨ k = 6 ∨ k = 8 ∨ k = 9 ∨ k = 10 ∨ k = 11 ∨ k = 12 ∨ k = 13
abbrev tzI1 (k : Nat) : Prop := k = 1 ∨ k = 2 ∨ k = 3 ∨ k = 5 ∨ k = 6 ∨ k = 8 ∨ k = 9 ∨ k = 10 ∨ k = 11 ∨ k = 12
abbrev tzJ1 (k : Nat) : Prop := k = 0 ∨ k = 4 ∨ k = 7
abbrev tzL1 (k : Nat) : Prop := k = 0 ∨ k = 4 ∨ k = 7
theorem tzIA1 {k : Nat} (hk : tzI1 k) : tzA1 k := by rcases hk with rfl | rfl | rfl | rfl | rfl | rfl | rfl | rfl | rfl | rfl <;> decide
theorem tzsz1_31 {k : Nat} (hk : tzA1 k) : tzsz1 k < 2 ^ 31 := by rcases hk with rfl | rfl | rfl | rfl | rfl | rfl | rfl | rfl | rfl | rfl | rfl <;> decide
theorem w1_at (a : Nat → Nat) (c : Nat → ClassId) (u : tzS) {k : Nat} (hk : tzA1 k) : (wX1 a c u)[tzps1 k]? = some (a k, .inl (c k, tzsz1 k, .inl (u k))) := by rcases hk with rfl | rfl | rfl | rfl | rfl | rfl | rfl | rfl | rfl | rfl | rfl <;> rfl
theorem w1_set (a : Nat → Nat) (c : Nat → ClassId) (u : tzS) (f : Nat → Int32) {k : Nat} (hk : tzA1 k) : (wX1 a c u).set (tzps1 k) (a k, .inl (c k, tzsz1 k, .inl f)) = wX1 a c (va_up u k f) := by rcases hk with rfl | rfl | rfl | rfl | rfl | rfl | rfl | rfl | rfl | rfl | rfl <;> rfl
theorem t1_at (c : Nat → ClassId) {k : Nat} (hk : tzI1 k) : (tX1 c)[tzps1 k - 1]? = some (c k, .int) := by rcases hk with rfl | rfl | rfl | rfl | rfl | rfl | rfl | rfl | rfl | rfl <;> rfl
theorem f1_ref (a : Nat → Nat) (u : tzS) {k : Nat} (hk : tzA1 k) : (tzf1 a u)[k]? = some (.ref (a k)) := by rcases hk with rfl | rfl | rfl | rfl | rfl | rfl | rfl | rfl | rfl | rfl | rfl <;> rfl
theorem f1_int (a : Nat → Nat) (u : tzS) {k : Nat} (hk : tzL1 k) : (tzf1 a u)[k]? = some (.int (u k 0)) := by rcases hk with rfl | rfl | rfl <;> rfl
theorem f1_set (a : Nat → Nat) (c : Nat → ClassId) (u : tzS) (x : Int32) {k : Nat} (hk : tzL1 k) : (wX1 a c u).set 0 (a 14, .inr (1, (tzf1 a u).set k (.int x))) = wX1 a c (va_up u k (fun _ => x)) := by rcases hk with rfl | rfl | rfl <;> rfl
theorem tzlt1 {k : Nat} (hk : tzA1 k) : k < 14 := by rcases hk with rfl | rfl | rfl | rfl | rfl | rfl | rfl | rfl | rfl | rfl | rfl <;> decide
theorem tzltL1 {k : Nat} (hk : tzL1 k) : k < 14 := by rcases hk with rfl | rfl | rfl <;> decide
theorem tzfin1 {k : Nat} (hk : tzJ1 k) : (TX1 k).2.2.2 = false ∧ parseFieldDescriptor (TX1 k).2.2.1 = some .int := by rcases hk with rfl | rfl | rfl <;> decide +kernel
theorem tzJL1 {k : Nat} (hk : tzJ1 k) : tzL1 k := by rcases hk with rfl | rfl | rfl <;> decide
section TZ
variable {p : Program} {l : Launch} {e : Env} {R : Room} {s : State} {m : MethodId} {args : Array Value} {below : List Frame} {meth : Method} {cd : Code} {H : Heap} {locs : List Loc} {cells slots : Nat} {Q : State → Prop}
variable {cc : ByteArray} {nL pc : Nat} {ls : Array Slot} {rest : List Value} {D : va_G} {A : Nat → Prop} {a : Nat → Nat} {c : Nat → ClassId} {u : tzS} {H0 : Heap}
theorem x0_getr (k : Nat) (hk : tzA0 k) {idx : Nat} (Z : tzC p s m args cd cc nL RX0 D (tX0 c)) (Y : tzY D A H0 (wX0 a c u) H locs) (hlk : Cond.fieldLink RX0 idx (TX0 k).1 (TX0 k).2.1 (TX0 k).2.2.1 ∈ lw_all) (hdg : decode cc pc = .ok (.getfield idx, 3)) (kk : W p l e R s m args below meth cd H locs cells slots Q (F0 m (pc + 3) ls (.ref (a k) :: rest))) : W p l e R s m args below meth cd H locs cells slots Q (F0 m pc ls (.ref (a 16) :: rest)) := by
  obtain ⟨⟨hx, hb, -, hown, hts⟩, hK⟩ := Z
  exact va_get (D := D) (ci := 0) (C := RX0) (T := TX0) (N := 16) hx hb hts in_X0 hown hK Y.1 0 rfl rfl k (tzlt0 hk) (hts _ hlk) (fun _ h => h) (f0_ref a u hk) hdg kk
theorem x0_geti (k : Nat) (hk : tzL0 k) {idx : Nat} (Z : tzC p s m args cd cc nL RX0 D (tX0 c)) (Y : tzY D A H0 (wX0 a c u) H locs) (hlk : Cond.fieldLink RX0 idx (TX0 k).1 (TX0 k).2.1 (TX0 k).2.2.1 ∈ lw_all) (hdg : decode cc pc = .ok (.getfield idx, 3)) (kk : W p l e R s m args below meth cd H locs cells slots Q (F0 m (pc + 3) ls (.int (u k 0) :: rest))) : W p l e R s m args below meth cd H locs cells slots Q (F0 m pc ls (.ref (a 16) :: rest)) := by
  obtain ⟨⟨hx, hb, -, hown, hts⟩, hK⟩ := Z
  exact va_get (D := D) (ci := 0) (C := RX0) (T := TX0) (N := 16) hx hb hts in_X0 hown hK Y.1 0 rfl rfl k (tzltL0 hk) (hts _ hlk) (fun _ h => h) (f0_int a u hk) hdg kk
theorem x0_ald (k : Nat) (hk : tzI0 k) {i : Nat} {x : Int32} (Z : tzC p s m args cd cc nL RX0 D (tX0 c)) (Y : tzY D A H0 (wX0 a c u) H locs) (h : tzat x i (tzsz0 k)) (hdg : decode cc pc = .ok (.iaload, 1)) (kk : W p l e R s m args below meth cd H locs cells slots Q (F0 m (pc + 1) ls (.int (u k i) :: rest))) : W p l e R s m args below meth cd H locs cells slots Q (F0 m pc ls (.int x :: .ref (a k) :: rest)) := by
  obtain ⟨⟨hx, hb, -, hown, hts⟩, hK⟩ := Z
  obtain ⟨rfl, hi⟩ := h
  have h31 := (tzsz0_31 (tzIA0 hk))
  have e1 : (nI i).toNatClampNeg = i := nI_clamp (by omega)
  refine va_iald hx hb hK Y.1 (tzps0 k) (tzps0 k - 1) (w0_at a c u (tzIA0 hk)) (t0_at c hk) (vp_in_nI hi h31) hdg ?_
  rw [e1]
  exact kk
theorem x0_ast (k : Nat) (hk : tzI0 k) {i : Nat} {x v : Int32} (Z : tzC p s m args cd cc nL RX0 D (tX0 c)) (Y : tzY D A H0 (wX0 a c u) H locs) (h : tzat x i (tzsz0 k)) (hdg : decode cc pc = .ok (.iastore, 1)) (kk : ∀ (H1 : Heap) (locs1 : List Loc), tzY D A H0 (wX0 a c (tzst u k i v)) H1 locs1 → W p l e R s m args below meth cd H1 locs1 cells slots Q (F0 m (pc + 1) ls rest)) : W p l e R s m args below meth cd H locs cells slots Q (F0 m pc ls (.int v :: .int x :: .ref (a k) :: rest)) := by
  obtain ⟨⟨hx, hb, -, hown, hts⟩, hK⟩ := Z
  obtain ⟨rfl, hi⟩ := h
  have h31 := (tzsz0_31 (tzIA0 hk))
  have e1 : (nI i).toNatClampNeg = i := nI_clamp (by omega)
  refine va_iast hx hb hK Y.1 Y.2.1 Y.2.2 (tzps0 k) (tzps0 k - 1) (w0_at a c u (tzIA0 hk)) (t0_at c hk) (vp_in_nI hi h31) hdg (fun H1 locs1 hP hD hS => ?_)
  rw [e1, w0_set a c u _ (tzIA0 hk)] at hP hD
  exact kk H1 locs1 ⟨hP, hD, hS⟩
theorem x0_zald {i : Nat} {x : Int32} (Z : tzC p s m args cd cc nL RX0 D (tX0 c)) (Y : tzY D A H0 (wX0 a c u) H locs) (h : tzat x i (tzsz0 10)) (hdg : decode cc pc = .ok (.baload, 1)) (kk : W p l e R s m args below meth cd H locs cells slots Q (F0 m (pc + 1) ls (.int (u 10 i) :: rest))) : W p l e R s m args below meth cd H locs cells slots Q (F0 m pc ls (.int x :: .ref (a 10) :: rest)) := by
  obtain ⟨⟨hx, hb, -, hown, hts⟩, hK⟩ := Z
  obtain ⟨rfl, hi⟩ := h
  have h31 := (tzsz0_31 (k := 10) (by decide))
  have e1 : (nI i).toNatClampNeg = i := nI_clamp (by omega)
  refine va_zald hx hb hK Y.1 (tzps0 10) (tzps0 10 - 1) (w0_at a c u (k := 10) (by decide)) (show (tX0 c)[tzps0 10 - 1]? = some (c 10, .boolean) from rfl) (vp_in_nI hi h31) hdg ?_
  rw [e1]
  exact kk
theorem x0_zast {i : Nat} {x y v : Int32} (Z : tzC p s m args cd cc nL RX0 D (tX0 c)) (Y : tzY D A H0 (wX0 a c u) H locs) (h : tzat x i (tzsz0 10)) (hv : vp_nar .boolean y = v) (hdg : decode cc pc = .ok (.bastore, 1)) (kk : ∀ (H1 : Heap) (locs1 : List Loc), tzY D A H0 (wX0 a c (tzst u 10 i v)) H1 locs1 → W p l e R s m args below meth cd H1 locs1 cells slots Q (F0 m (pc + 1) ls rest)) : W p l e R s m args below meth cd H locs cells slots Q (F0 m pc ls (.int y :: .int x :: .ref (a 10) :: rest)) := by
  obtain ⟨⟨hx, hb, -, hown, hts⟩, hK⟩ := Z
  obtain ⟨rfl, hi⟩ := h
  have h31 := (tzsz0_31 (k := 10) (by decide))
  have e1 : (nI i).toNatClampNeg = i := nI_clamp (by omega)
  subst hv
  refine va_zast hx hb hK Y.1 Y.2.1 Y.2.2 (tzps0 10) (tzps0 10 - 1) (w0_at a c u (k := 10) (by decide)) (show (tX0 c)[tzps0 10 - 1]? = some (c 10, .boolean) from rfl) (vp_in_nI hi h31) hdg (fun H1 locs1 hP hD hS => ?_)
  rw [e1, w0_set a c u _ (k := 10) (by decide)] at hP hD
  exact kk H1 locs1 ⟨hP, hD, hS⟩
theorem x0_puti (k : Nat) (hk : tzJ0 k) {idx : Nat} {v : Int32} (Z : tzC p s m args cd cc nL RX0 D (tX0 c)) (Y : tzY D A H0 (wX0 a c u) H locs) (hlk : Cond.fieldLink RX0 idx (TX0 k).1 (TX0 k).2.1 (TX0 k).2.2.1 ∈ lw_all) (hdg : decode cc pc = .ok (.putfield idx, 3)) (kk : ∀ (H1 : Heap) (locs1 : List Loc), tzY D A H0 (wX0 a c (tzpt u k v)) H1 locs1 → W p l e R s m args below meth cd H1 locs1 cells slots Q (F0 m (pc + 3) ls rest)) : W p l e R s m args below meth cd H locs cells slots Q (F0 m pc ls (.int v :: .ref (a 16) :: rest)) := by
  obtain ⟨⟨hx, hb, -, hown, hts⟩, hK⟩ := Z
  refine va_put (D := D) (ci := 0) (ty := .int) (v := .int v) (C := RX0) (T := TX0) (N := 16) hx hb hts in_X0 tyX0 tyX0_ok nmX0 hown hK Y.1 Y.2.1 Y.2.2 0 rfl rfl k (tzltL0 (tzJL0 hk)) (hts _ hlk) (fun _ h => h) (tzfin0 hk).1 (tzfin0 hk).2 rfl rfl (show k < 16 from tzltL0 (tzJL0 hk)) hdg (fun H1 locs1 hP hD hS => ?_)
  have hP : va_P D vwCl ((wX0 a c u).set 0 (a 16, .inr (0, (tzf0 a u).set k (.int v)))) H1 := hP
  have hD : va_D A ((wX0 a c u).set 0 (a 16, .inr (0, (tzf0 a u).set k (.int v)))) := hD
  rw [f0_set a c u _ (tzJL0 hk)] at hP hD
  exact kk H1 locs1 ⟨hP, hD, hS⟩
theorem x0_putz {idx : Nat} {v : Int32} (Z : tzC p s m args cd cc nL RX0 D (tX0 c)) (Y : tzY D A H0 (wX0 a c u) H locs) (hlk : Cond.fieldLink RX0 idx (TX0 15).1 (TX0 15).2.1 (TX0 15).2.2.1 ∈ lw_all) (hnr : narrow .boolean (.int v) = .int v) (hft : fits .boolean (.int v) = true) (hdg : decode cc pc = .ok (.putfield idx, 3)) (kk : ∀ (H1 : Heap) (locs1 : List Loc), tzY D A H0 (wX0 a c (tzpt u 15 v)) H1 locs1 → W p l e R s m args below meth cd H1 locs1 cells slots Q (F0 m (pc + 3) ls rest)) : W p l e R s m args below meth cd H locs cells slots Q (F0 m pc ls (.int v :: .ref (a 16) :: rest)) := by
  obtain ⟨⟨hx, hb, -, hown, hts⟩, hK⟩ := Z
  refine va_put (D := D) (ci := 0) (ty := .boolean) (v := .int v) (C := RX0) (T := TX0) (N := 16) hx hb hts in_X0 tyX0 tyX0_ok nmX0 hown hK Y.1 Y.2.1 Y.2.2 0 rfl rfl 15 (by decide) (hts _ hlk) (fun _ h => h) rfl (by decide +kernel) hnr hft (show 15 < 16 from by decide) hdg (fun H1 locs1 hP hD hS => ?_)
  have hP : va_P D vwCl ((wX0 a c u).set 0 (a 16, .inr (0, (tzf0 a u).set 15 (.int v)))) H1 := hP
  have hD : va_D A ((wX0 a c u).set 0 (a 16, .inr (0, (tzf0 a u).set 15 (.int v)))) := hD
  rw [f0_set a c u _ (k := 15) (by decide)] at hP hD
  exact kk H1 locs1 ⟨hP, hD, hS⟩
theorem x1_getr (k : Nat) (hk : tzA1 k) {idx : Nat} (Z : tzC p s m args cd cc nL RX1 D (tX1 c)) (Y : tzY D A H0 (wX1 a c u) H locs) (hlk : Cond.fieldLink RX1 idx (TX1 k).1 (TX1 k).2.1 (TX1 k).2.2.1 ∈ lw_all) (hdg : decode cc pc = .ok (.getfield idx, 3)) (kk : W p l e R s m args below meth cd H locs cells slots Q (F0 m (pc + 3) ls (.ref (a k) :: rest))) : W p l e R s m args below meth cd H locs cells slots Q (F0 m pc ls (.ref (a 14) :: rest)) := by
  obtain ⟨⟨hx, hb, -, hown, hts⟩, hK⟩ := Z
  exact va_get (D := D) (ci := 1) (C := RX1) (T := TX1) (N := 14) hx hb hts in_X1 hown hK Y.1 0 rfl rfl k (tzlt1 hk) (hts _ hlk) (fun _ h => h) (f1_ref a u hk) hdg kk
theorem x1_geti (k : Nat) (hk : tzL1 k) {idx : Nat} (Z : tzC p s m args cd cc nL RX1 D (tX1 c)) (Y : tzY D A H0 (wX1 a c u) H locs) (hlk : Cond.fieldLink RX1 idx (TX1 k).1 (TX1 k).2.1 (TX1 k).2.2.1 ∈ lw_all) (hdg : decode cc pc = .ok (.getfield idx, 3)) (kk : W p l e R s m args below meth cd H locs cells slots Q (F0 m (pc + 3) ls (.int (u k 0) :: rest))) : W p l e R s m args below meth cd H locs cells slots Q (F0 m pc ls (.ref (a 14) :: rest)) := by
  obtain ⟨⟨hx, hb, -, hown, hts⟩, hK⟩ := Z
  exact va_get (D := D) (ci := 1) (C := RX1) (T := TX1) (N := 14) hx hb hts in_X1 hown hK Y.1 0 rfl rfl k (tzltL1 hk) (hts _ hlk) (fun _ h => h) (f1_int a u hk) hdg kk
theorem x1_ald (k : Nat) (hk : tzI1 k) {i : Nat} {x : Int32} (Z : tzC p s m args cd cc nL RX1 D (tX1 c)) (Y : tzY D A H0 (wX1 a c u) H locs) (h : tzat x i (tzsz1 k)) (hdg : decode cc pc = .ok (.iaload, 1)) (kk : W p l e R s m args below meth cd H locs cells slots Q (F0 m (pc + 1) ls (.int (u k i) :: rest))) : W p l e R s m args below meth cd H locs cells slots Q (F0 m pc ls (.int x :: .ref (a k) :: rest)) := by
  obtain ⟨⟨hx, hb, -, hown, hts⟩, hK⟩ := Z
  obtain ⟨rfl, hi⟩ := h
  have h31 := (tzsz1_31 (tzIA1 hk))
  have e1 : (nI i).toNatClampNeg = i := nI_clamp (by omega)
  refine va_iald hx hb hK Y.1 (tzps1 k) (tzps1 k - 1) (w1_at a c u (tzIA1 hk)) (t1_at c hk) (vp_in_nI hi h31) hdg ?_
  rw [e1]
  exact kk
theorem x1_ast (k : Nat) (hk : tzI1 k) {i : Nat} {x v : Int32} (Z : tzC p s m args cd cc nL RX1 D (tX1 c)) (Y : tzY D A H0 (wX1 a c u) H locs) (h : tzat x i (tzsz1 k)) (hdg : decode cc pc = .ok (.iastore, 1)) (kk : ∀ (H1 : Heap) (locs1 : List Loc), tzY D A H0 (wX1 a c (tzst u k i v)) H1 locs1 → W p l e R s m args below meth cd H1 locs1 cells slots Q (F0 m (pc + 1) ls rest)) : W p l e R s m args below meth cd H locs cells slots Q (F0 m pc ls (.int v :: .int x :: .ref (a k) :: rest)) := by
  obtain ⟨⟨hx, hb, -, hown, hts⟩, hK⟩ := Z
  obtain ⟨rfl, hi⟩ := h
  have h31 := (tzsz1_31 (tzIA1 hk))
  have e1 : (nI i).toNatClampNeg = i := nI_clamp (by omega)
  refine va_iast hx hb hK Y.1 Y.2.1 Y.2.2 (tzps1 k) (tzps1 k - 1) (w1_at a c u (tzIA1 hk)) (t1_at c hk) (vp_in_nI hi h31) hdg (fun H1 locs1 hP hD hS => ?_)
  rw [e1, w1_set a c u _ (tzIA1 hk)] at hP hD
  exact kk H1 locs1 ⟨hP, hD, hS⟩
theorem x1_zald {i : Nat} {x : Int32} (Z : tzC p s m args cd cc nL RX1 D (tX1 c)) (Y : tzY D A H0 (wX1 a c u) H locs) (h : tzat x i (tzsz1 13)) (hdg : decode cc pc = .ok (.baload, 1)) (kk : W p l e R s m args below meth cd H locs cells slots Q (F0 m (pc + 1) ls (.int (u 13 i) :: rest))) : W p l e R s m args below meth cd H locs cells slots Q (F0 m pc ls (.int x :: .ref (a 13) :: rest)) := by
  obtain ⟨⟨hx, hb, -, hown, hts⟩, hK⟩ := Z
  obtain ⟨rfl, hi⟩ := h
  have h31 := (tzsz1_31 (k := 13) (by decide))
  have e1 : (nI i).toNatClampNeg = i := nI_clamp (by omega)
  refine va_zald hx hb hK Y.1 (tzps1 13) (tzps1 13 - 1) (w1_at a c u (k := 13) (by decide)) (show (tX1 c)[tzps1 13 - 1]? = some (c 13, .boolean) from rfl) (vp_in_nI hi h31) hdg ?_
  rw [e1]
  exact kk
theorem x1_zast {i : Nat} {x y v : Int32} (Z : tzC p s m args cd cc nL RX1 D (tX1 c)) (Y : tzY D A H0 (wX1 a c u) H locs) (h : tzat x i (tzsz1 13)) (hv : vp_nar .boolean y = v) (hdg : decode cc pc = .ok (.bastore, 1)) (kk : ∀ (H1 : Heap) (locs1 : List Loc), tzY D A H0 (wX1 a c (tzst u 13 i v)) H1 locs1 → W p l e R s m args below meth cd H1 locs1 cells slots Q (F0 m (pc + 1) ls rest)) : W p l e R s m args below meth cd H locs cells slots Q (F0 m pc ls (.int y :: .int x :: .ref (a 13) :: rest)) := by
  obtain ⟨⟨hx, hb, -, hown, hts⟩, hK⟩ := Z
  obtain ⟨rfl, hi⟩ := h
  have h31 := (tzsz1_31 (k := 13) (by decide))
  have e1 : (nI i).toNatClampNeg = i := nI_clamp (by omega)
  subst hv
  refine va_zast hx hb hK Y.1 Y.2.1 Y.2.2 (tzps1 13) (tzps1 13 - 1) (w1_at a c u (k := 13) (by decide)) (show (tX1 c)[tzps1 13 - 1]? = some (c 13, .boolean) from rfl) (vp_in_nI hi h31) hdg (fun H1 locs1 hP hD hS => ?_)
  rw [e1, w1_set a c u _ (k := 13) (by decide)] at hP hD
  exact kk H1 locs1 ⟨hP, hD, hS⟩
theorem x1_puti (k : Nat) (hk : tzJ1 k) {idx : Nat} {v : Int32} (Z : tzC p s m args cd cc nL RX1 D (tX1 c)) (Y : tzY D A H0 (wX1 a c u) H locs) (hlk : Cond.fieldLink RX1 idx (TX1 k).1 (TX1 k).2.1 (TX1 k).2.2.1 ∈ lw_all) (hdg : decode cc pc = .ok (.putfield idx, 3)) (kk : ∀ (H1 : Heap) (locs1 : List Loc), tzY D A H0 (wX1 a c (tzpt u k v)) H1 locs1 → W p l e R s m args below meth cd H1 locs1 cells slots Q (F0 m (pc + 3) ls rest)) : W p l e R s m args below meth cd H locs cells slots Q (F0 m pc ls (.int v :: .ref (a 14) :: rest)) := by
  obtain ⟨⟨hx, hb, -, hown, hts⟩, hK⟩ := Z
  refine va_put (D := D) (ci := 1) (ty := .int) (v := .int v) (C := RX1) (T := TX1) (N := 14) hx hb hts in_X1 tyX1 tyX1_ok nmX1 hown hK Y.1 Y.2.1 Y.2.2 0 rfl rfl k (tzltL1 (tzJL1 hk)) (hts _ hlk) (fun _ h => h) (tzfin1 hk).1 (tzfin1 hk).2 rfl rfl (show k < 14 from tzltL1 (tzJL1 hk)) hdg (fun H1 locs1 hP hD hS => ?_)
  have hP : va_P D vwCl ((wX1 a c u).set 0 (a 14, .inr (1, (tzf1 a u).set k (.int v)))) H1 := hP
  have hD : va_D A ((wX1 a c u).set 0 (a 14, .inr (1, (tzf1 a u).set k (.int v)))) := hD
  rw [f1_set a c u _ (tzJL1 hk)] at hP hD
  exact kk H1 locs1 ⟨hP, hD, hS⟩
end TZ
/-- the end of a method that answers an int (or a truth value): the answer r, the state u' -/
def tzB (D : va_G) (w : tzS → va_W) (ty : List (ClassId × FieldType)) (A : Nat → Prop) (z : tzS) (t : State) : Prop := va_P D vwCl (w z) t.heap ∧ va_K D vwCl ty t ∧ va_D A (w z)
def tzQi (D : va_G) (w : tzS → va_W) (ty : List (ClassId × FieldType)) (A : Nat → Prop) (r : Int32) (u' : tzS) : Array Value → State → Outcome → State → Prop := va_Qi (fun (r2 : Int32) (z : tzS) => r2 = r ∧ z = u') (tzB D w ty A) A
def tzQv (D : va_G) (w : tzS → va_W) (ty : List (ClassId × FieldType)) (A : Nat → Prop) (u' : tzS) : Array Value → State → Outcome → State → Prop := va_Qv (fun (z : tzS) => z = u') (tzB D w ty A) A
def tzPc (D : va_G) (w : tzS → va_W) (ty : List (ClassId × FieldType)) (as : List Value) (u : tzS) (sz : Nat) : Array Value → State → Prop := va_Pc as (fun U => U.heap.size = sz ∧ va_P D vwCl (w u) U.heap ∧ va_K D vwCl ty U ∧ va_D (fun _ => True) (w u))
/-- CONTRACT of a method over the whole world w of its class: with the arguments as, from the state u, it answers r and leaves the state u' -/
def tzMi (l : Launch) (y : MethodName) (bytes : ByteArray) (maxL : Nat) (ret : FieldType) (rm : Room) (D : va_G) (w : tzS → va_W) (ty : List (ClassId × FieldType)) (as : List Value) (u : tzS) (r : Int32) (u' : tzS) : Prop :=
  ∀ sz : Nat, Met l y (ws_ y bytes maxL (some ret)) rm (tzPc D w ty as u sz) (tzQi D w ty (va_A (w u) sz) r u') 0 0 (va_A (w u) sz)
/-- CONTRACT of a void method -/
def tzMv (l : Launch) (y : MethodName) (bytes : ByteArray) (maxL : Nat) (rm : Room) (D : va_G) (w : tzS → va_W) (ty : List (ClassId × FieldType)) (as : List Value) (u : tzS) (u' : tzS) : Prop :=
  ∀ sz : Nat, Met l y (ws_ y bytes maxL none) rm (tzPc D w ty as u sz) (tzQv D w ty (va_A (w u) sz) u') 0 0 (va_A (w u) sz)
section TZM
variable {l : Launch} {y : MethodName} {bytes : ByteArray} {maxL : Nat} {ret : FieldType} {rm : Room} {D : va_G} {w : tzS → va_W} {ty : List (ClassId × FieldType)} {as : List Value} {u u' : tzS} {r : Int32}
theorem tzMi.mk (own : String) (hy : plainName y.cls = true) (hown : y.cls = own) (hlen : (lg_sl as).length ≤ maxL)
    (body : ∀ (p : Program) (e : Env) (s : State) (m : MethodId) (below : List Frame) (meth : Method) (cd : Code) (A : Nat → Prop) (ls : Array Slot), tzC p s m as.toArray cd bytes maxL own D ty → meth.sig.returnType = some ret → meth.locks = false → (∀ q : Nat, s.heap.size ≤ q → A q) → tzY D A s.heap (w u) s.heap [] → lv_has ls maxL (lv_args 0 as) → W p l e rm s m as.toArray below meth cd s.heap [] 0 0 (MQ below (tzQi D w ty A r u') as.toArray s 0 0 A) (F0 m 0 ls [])) : tzMi l y bytes maxL ret rm D w ty as u r u' := by
  intro sz
  refine Met.ofW (cc := bytes) (maxL := maxL) (ret := some ret) hy rfl ?_
  intro p e s m args below meth cd s₁ B hml hv
  obtain ⟨rfl, hsz, hP, hK, hD0⟩ := hv
  have hts := atoms_spec (ws := ws_ y bytes maxL (some ret)) B.pre
  have hts : ∀ w ∈ lw_all, w.before _ s = true := fun w h => hts w (List.mem_cons_of_mem _ h)
  have hown1 : s.vm.findClass y.cls = some m.cls := findClass_of_methodNamed B.named
  subst hsz
  have hD := hD0.self (sz := s.heap.size)
  have hl := lv_entry as (n := maxL) hlen
  rw [lg_entry_eq]
  exact body p e s m below meth cd (va_A (w u) s.heap.size) _ ⟨⟨B.exec, B.bytes, hml, hown ▸ hown1, hts⟩, hK⟩ B.returns B.notSynchronized (fun q h => Or.inr h) ⟨hP, hD, va_S.rf⟩ hl
theorem tzMv.mk (own : String) (hy : plainName y.cls = true) (hown : y.cls = own) (hlen : (lg_sl as).length ≤ maxL)
    (body : ∀ (p : Program) (e : Env) (s : State) (m : MethodId) (below : List Frame) (meth : Method) (cd : Code) (A : Nat → Prop) (ls : Array Slot), tzC p s m as.toArray cd bytes maxL own D ty → meth.sig.returnType = none → meth.locks = false → (∀ q : Nat, s.heap.size ≤ q → A q) → tzY D A s.heap (w u) s.heap [] → lv_has ls maxL (lv_args 0 as) → W p l e rm s m as.toArray below meth cd s.heap [] 0 0 (MQ below (tzQv D w ty A u') as.toArray s 0 0 A) (F0 m 0 ls [])) : tzMv l y bytes maxL rm D w ty as u u' := by
  intro sz
  refine Met.ofW (cc := bytes) (maxL := maxL) (ret := none) hy rfl ?_
  intro p e s m args below meth cd s₁ B hml hv
  obtain ⟨rfl, hsz, hP, hK, hD0⟩ := hv
  have hts := atoms_spec (ws := ws_ y bytes maxL none) B.pre
  have hts : ∀ w ∈ lw_all, w.before _ s = true := fun w h => hts w (List.mem_cons_of_mem _ h)
  have hown1 : s.vm.findClass y.cls = some m.cls := findClass_of_methodNamed B.named
  subst hsz
  have hD := hD0.self (sz := s.heap.size)
  have hl := lv_entry as (n := maxL) hlen
  rw [lg_entry_eq]
  exact body p e s m below meth cd (va_A (w u) s.heap.size) _ ⟨⟨B.exec, B.bytes, hml, hown ▸ hown1, hts⟩, hK⟩ B.returns B.notSynchronized (fun q h => Or.inr h) ⟨hP, hD, va_S.rf⟩ hl
end TZM
section TZR
variable {p : Program} {l : Launch} {e : Env} {R : Room} {s : State} {m : MethodId} {args : Array Value} {below : List Frame} {meth : Method} {cd : Code} {H : Heap} {locs : List Loc} {cells slots : Nat} {Q : State → Prop}
variable {cc : ByteArray} {nL pc : Nat} {ls : Array Slot} {rest : List Value} {D : va_G} {A : Nat → Prop} {u u' z : tzS} {H0 : Heap} {own : String} {w : tzS → va_W} {ty : List (ClassId × FieldType)} {as : List Value} {r : Int32}
theorem tz_ri (Z : tzC p s m as.toArray cd cc nL own D ty) (hr : meth.sig.returnType = some .int) (hlk : meth.locks = false) (Y : tzY D A s.heap (w z) H locs) {v : Int32} (hdg : decode cc pc = .ok (.ireturn, 1)) (h1 : v = r) (h2 : z = u') : W p l e R s m as.toArray below meth cd H locs 0 0 (MQ below (tzQi D w ty A r u') as.toArray s 0 0 A) (F0 m pc ls [.int v]) := by
  subst h1
  subst h2
  obtain ⟨⟨hx, hb, -⟩, hK⟩ := Z
  obtain ⟨hP, hD, hS⟩ := Y
  exact W.iret hx hb hr (fun t ht hW => ⟨⟨_, _, rfl, ⟨rfl, rfl⟩, by rw [ht]; exact hP, va_K.moved hW.alike hK, hD⟩, hS.F ht⟩) hS.2.2 hdg hlk
theorem tz_rz (Z : tzC p s m as.toArray cd cc nL own D ty) (hr : meth.sig.returnType = some .boolean) (hlk : meth.locks = false) (Y : tzY D A s.heap (w z) H locs) {v : Int32} (hn : narrow .boolean (.int v) = .int v) (hdg : decode cc pc = .ok (.ireturn, 1)) (h1 : v = r) (h2 : z = u') : W p l e R s m as.toArray below meth cd H locs 0 0 (MQ below (tzQi D w ty A r u') as.toArray s 0 0 A) (F0 m pc ls [.int v]) := by
  subst h1
  subst h2
  obtain ⟨⟨hx, hb, -⟩, hK⟩ := Z
  obtain ⟨hP, hD, hS⟩ := Y
  exact W.zret hx hb hr hn (fun t ht hW => ⟨⟨_, _, rfl, ⟨rfl, rfl⟩, by rw [ht]; exact hP, va_K.moved hW.alike hK, hD⟩, hS.F ht⟩) hS.2.2 hdg hlk
theorem tz_rv (Z : tzC p s m as.toArray cd cc nL own D ty) (hr : meth.sig.returnType = none) (hlk : meth.locks = false) (Y : tzY D A s.heap (w z) H locs) (hdg : decode cc pc = .ok (.return_, 1)) (h2 : z = u') : W p l e R s m as.toArray below meth cd H locs 0 0 (MQ below (tzQv D w ty A u') as.toArray s 0 0 A) (F0 m pc ls []) := by
  subst h2
  obtain ⟨⟨hx, hb, -⟩, hK⟩ := Z
  obtain ⟨hP, hD, hS⟩ := Y
  exact W.vret hx hb hr (fun t ht hW => ⟨⟨_, rfl, rfl, by rw [ht]; exact hP, va_K.moved hW.alike hK, hD⟩, hS.F ht⟩) hS.2.2 hdg hlk
theorem tz_free (Y : tzY D A H0 (w u) H locs) (hA : ∀ q : Nat, H0.size ≤ q → A q) : ∀ q, va_A (w u) H.size q → A q := by
  intro q h
  rcases h with ⟨k, e, h⟩ | h
  · exact Y.2.1.2 k _ h
  · exact hA q (Nat.le_trans Y.2.2.1 h)
theorem tz_blind {ws : va_W} {sz : Nat} : FrameBlind (va_Pc as (fun U => U.heap.size = sz ∧ va_P D vwCl ws U.heap ∧ va_K D vwCl ty U ∧ va_D (fun _ => True) ws)) := by
  intro a U g mk q
  obtain ⟨q0, q1, qP, qK, qD⟩ := q
  exact ⟨q0, q1, qP, va_K.moved (u := U) (U := U.calling g mk a) (Vm.Alike.refl U.vm) qK, qD⟩
variable {C : String} {T : u_T} {N idx n ci b : Nat} {y : MethodName} {bytes : ByteArray} {maxL : Nat} {ret : FieldType} {rm : Room} {As : List Value} {fs : List Value}
theorem tz_cVi (Z : tzC p s m args cd cc nL own D ty) (Y : tzY D A H0 (w u) H locs) (hA : ∀ q : Nat, H0.size ≤ q → A q) (hcs : cells ≤ R.cells ∧ slots ≤ R.slots) (hM : tzMi l y bytes maxL ret rm D w ty (.ref b :: As) u r u') (hw : (w u)[0]? = some (b, .inr (ci, fs))) (hc : vwCl[ci]? = some (C, T, N))
    (cw : CallW R s args own C idx y bytes maxL (some ret) (ws_ y bytes maxL (some ret)) rm 0 0 n) (hn : As.length = n) (hls : ls.size = nL) {st : List Value} (hst : st = As.reverse ++ .ref b :: rest) (hrest : (rest.map fun v => v.category).sum ≤ 8) (hdg : decode cc pc = .ok (.invokevirtual idx, 3))
    (kk : ∀ (H1 : Heap) (locs1 : List Loc), tzY D A H0 (w u') H1 locs1 → W p l e R s m args below meth cd H1 locs1 cells slots Q (F0 m (pc + 3) ls (.int r :: rest))) : W p l e R s m args below meth cd H locs cells slots Q (F0 m pc ls st) := by
  have hFc := tz_free Y hA
  obtain ⟨S, hK⟩ := Z
  obtain ⟨hP, hD, hS⟩ := Y
  refine va_calli (va_runV S (hM H.size) cw ⟨tz_blind, va_recv hK hP hc hw, fun U hU hW => ⟨rfl, by rw [hU], by rw [hU]; exact hP, va_K.moved hW.alike hK, hD.weaken (fun _ _ _ _ => trivial)⟩⟩ rfl hn hls hst (lv_room hrest) hdg hcs) hS (fun q _ h => hFc q h) hFc (fun r2 z t H1 locs1 ht hvm hp hB hz hk hS1 => ?_)
  obtain ⟨rfl, rfl⟩ := hp
  obtain ⟨hP1, -, hD1⟩ := hB
  rw [ht] at hP1
  exact kk H1 locs1 ⟨hP1, hD1.weaken (fun k q _ h => hFc q.1 h), hS1⟩
theorem tz_cVv (Z : tzC p s m args cd cc nL own D ty) (Y : tzY D A H0 (w u) H locs) (hA : ∀ q : Nat, H0.size ≤ q → A q) (hcs : cells ≤ R.cells ∧ slots ≤ R.slots) (hM : tzMv l y bytes maxL rm D w ty (.ref b :: As) u u') (hw : (w u)[0]? = some (b, .inr (ci, fs))) (hc : vwCl[ci]? = some (C, T, N))
    (cw : CallW R s args own C idx y bytes maxL none (ws_ y bytes maxL none) rm 0 0 n) (hn : As.length = n) (hls : ls.size = nL) {st : List Value} (hst : st = As.reverse ++ .ref b :: rest) (hrest : (rest.map fun v => v.category).sum ≤ 8) (hdg : decode cc pc = .ok (.invokevirtual idx, 3))
    (kk : ∀ (H1 : Heap) (locs1 : List Loc), tzY D A H0 (w u') H1 locs1 → W p l e R s m args below meth cd H1 locs1 cells slots Q (F0 m (pc + 3) ls rest)) : W p l e R s m args below meth cd H locs cells slots Q (F0 m pc ls st) := by
  have hFc := tz_free Y hA
  obtain ⟨S, hK⟩ := Z
  obtain ⟨hP, hD, hS⟩ := Y
  refine va_callv (va_runV S (hM H.size) cw ⟨tz_blind, va_recv hK hP hc hw, fun U hU hW => ⟨rfl, by rw [hU], by rw [hU]; exact hP, va_K.moved hW.alike hK, hD.weaken (fun _ _ _ _ => trivial)⟩⟩ rfl hn hls hst (lv_room hrest) hdg hcs) hS (fun q _ h => hFc q h) hFc (fun z t H1 locs1 ht hvm hp hB hz hk hS1 => ?_)
  obtain rfl := hp
  obtain ⟨hP1, -, hD1⟩ := hB
  rw [ht] at hP1
  exact kk H1 locs1 ⟨hP1, hD1.weaken (fun k q _ h => hFc q.1 h), hS1⟩
theorem tz_cSi (Z : tzC p s m args cd cc nL own D ty) (Y : tzY D A H0 (w u) H locs) (hA : ∀ q : Nat, H0.size ≤ q → A q) (hcs : cells ≤ R.cells ∧ slots ≤ R.slots) (hM : tzMi l y bytes maxL ret rm D w ty As u r u')
    (cw : CallB R s args own idx y bytes maxL (some ret) (ws_ y bytes maxL (some ret)) rm 0 0 n ∧ (Cond.static y).before args s = true) (hn : As.length = n) (hls : ls.size = nL) {st : List Value} (hst : st = As.reverse ++ rest) (hrest : (rest.map fun v => v.category).sum ≤ 8) (hdg : decode cc pc = .ok (.invokestatic idx, 3))
    (kk : ∀ (H1 : Heap) (locs1 : List Loc), tzY D A H0 (w u') H1 locs1 → W p l e R s m args below meth cd H1 locs1 cells slots Q (F0 m (pc + 3) ls (.int r :: rest))) : W p l e R s m args below meth cd H locs cells slots Q (F0 m pc ls st) := by
  have hFc := tz_free Y hA
  obtain ⟨S, hK⟩ := Z
  obtain ⟨hP, hD, hS⟩ := Y
  refine va_calli (va_runS S (hM H.size) cw ⟨tz_blind, fun U hU hW => ⟨rfl, by rw [hU], by rw [hU]; exact hP, va_K.moved hW.alike hK, hD.weaken (fun _ _ _ _ => trivial)⟩⟩ rfl hn hls hst (lv_room hrest) hdg hcs) hS (fun q _ h => hFc q h) hFc (fun r2 z t H1 locs1 ht hvm hp hB hz hk hS1 => ?_)
  obtain ⟨rfl, rfl⟩ := hp
  obtain ⟨hP1, -, hD1⟩ := hB
  rw [ht] at hP1
  exact kk H1 locs1 ⟨hP1, hD1.weaken (fun k q _ h => hFc q.1 h), hS1⟩
/-- a loop that counts up to n -/
theorem tz_loop {G : Nat → Heap → List Loc → Array Slot → Prop} {st : List Value} (n : Nat)
    (hs : ∀ (i : Nat) (H : Heap) (locs : List Loc) (ls : Array Slot), i < n → G i H locs ls → (∀ (H' : Heap) (locs' : List Loc) (ls' : Array Slot), G (i + 1) H' locs' ls' → W p l e R s m args below meth cd H' locs' cells slots Q (F0 m pc ls' st)) → W p l e R s m args below meth cd H locs cells slots Q (F0 m pc ls st))
    (hx : ∀ (H : Heap) (locs : List Loc) (ls : Array Slot), G n H locs ls → W p l e R s m args below meth cd H locs cells slots Q (F0 m pc ls st)) {H : Heap} {locs : List Loc} {ls : Array Slot} (h0 : G 0 H locs ls) : W p l e R s m args below meth cd H locs cells slots Q (F0 m pc ls st) := by
  have key : ∀ (d i : Nat), i + d = n → ∀ (H : Heap) (locs : List Loc) (ls : Array Slot), G i H locs ls → W p l e R s m args below meth cd H locs cells slots Q (F0 m pc ls st) := by
    intro d
    induction d with
    | zero =>
      intro i hi H locs ls g
      obtain rfl : i = n := by omega
      exact hx H locs ls g
    | succ d ih =>
      intro i hi H locs ls g
      exact hs i H locs ls (by omega) g (fun H' locs' ls' g' => ih (i + 1) (by omega) H' locs' ls' g')
  exact key n 0 (by omega) H locs ls h0
/-- a loop that counts down: G r, r places are left -/
theorem tz_loopD {G : Nat → Heap → List Loc → Array Slot → Prop} {st : List Value} (n : Nat)
    (hs : ∀ (r : Nat) (H : Heap) (locs : List Loc) (ls : Array Slot), r < n → G (r + 1) H locs ls → (∀ (H' : Heap) (locs' : List Loc) (ls' : Array Slot), G r H' locs' ls' → W p l e R s m args below meth cd H' locs' cells slots Q (F0 m pc ls' st)) → W p l e R s m args below meth cd H locs cells slots Q (F0 m pc ls st))
    (hx : ∀ (H : Heap) (locs : List Loc) (ls : Array Slot), G 0 H locs ls → W p l e R s m args below meth cd H locs cells slots Q (F0 m pc ls st)) {H : Heap} {locs : List Loc} {ls : Array Slot} (h0 : G n H locs ls) : W p l e R s m args below meth cd H locs cells slots Q (F0 m pc ls st) := by
  have key : ∀ (r : Nat), r ≤ n → ∀ (H : Heap) (locs : List Loc) (ls : Array Slot), G r H locs ls → W p l e R s m args below meth cd H locs cells slots Q (F0 m pc ls st) := by
    intro r
    induction r with
    | zero =>
      intro hi H locs ls g
      exact hx H locs ls g
    | succ r ih =>
      intro hi H locs ls g
      exact hs r H locs ls (by omega) g (fun H' locs' ls' g' => ih (by omega) H' locs' ls' g')
  exact key n (Nat.le_refl _) H locs ls h0
/-- the value on top by another name -/
theorem tz_top {x y : Int32} (h : x = y) (k : W p l e R s m args below meth cd H locs cells slots Q (F0 m pc ls (.int y :: rest))) : W p l e R s m args below meth cd H locs cells slots Q (F0 m pc ls (.int x :: rest)) := h ▸ k
end TZR
end
section
set_option maxRecDepth 100000
/-! WHAT THE METHODS COMPUTE, in plain Lean (X0: TapeSampler, x..; X1: TapeSamplerModel, m..) -/
def tzit (f : Nat → tzS → tzS) : Nat → tzS → tzS
  | 0, u => u
  | n + 1, u => f n (tzit f n u)
def tzdn (f : Nat → tzS → tzS) : Nat → tzS → tzS
  | 0, u => u
  | n + 1, u => tzdn f n (f n u)
def tzsm (f : Nat → Int32) : Nat → Int32
  | 0 => 0
  | n + 1 => tzsm f n + f n
def tzad (z : tzS) (k i : Nat) (x : Int32) : tzS := tzst z k i (z k i + x)
def tzsb (z : tzS) (k i : Nat) (x : Int32) : tzS := tzst z k i (z k i - x)
/-! the nodes -/
def tzcmp (K L R P V : Nat → Int32) (b k : Nat) : Int32 := if K k = 0 then P (b + tzix (L k)) else if K k = 1 then L k else if K k = 2 then V (tzix (L k)) + V (tzix (R k)) else if K k = 3 then V (tzix (L k)) - V (tzix (R k)) else V (tzix (L k)) * V (tzix (R k))
def tzchg (K L R M V C : Nat → Int32) (b k : Nat) : Int32 := if K k = 0 then M (b + tzix (L k)) else if K k = 1 then 0 else if K k = 2 then C (tzix (L k)) + C (tzix (R k)) else if K k = 3 then C (tzix (L k)) - C (tzix (R k)) else C (tzix (L k)) * V (tzix (R k)) + V (tzix (L k)) * C (tzix (R k))
/-! TapeSampler: 0 kinds 1 lefts 2 rights 3 termNode 4 termWeight 5 positions 6 momenta 7 values 8 shares 9 changes 10 needed 11 slopes 12 count 13 termCount 14 right 15 marked -/
def xIsC (c : Int32) : Int32 := if c < 0 then 0 else if 2 < c then 0 else 1
def xIsP (i : Int32) : Int32 := if i < 0 then 0 else if 4 ≤ i then 0 else 1
def xIsN (u : tzS) (k : Int32) : Int32 := if k < 0 then 0 else if u 12 0 ≤ k then 0 else 1
def xHas (kd : Int32) : Int32 := if kd < 2 then 0 else 1
def xMake (u : tzS) (kd x y : Int32) : Int32 × tzS := if u 12 0 = 24 then (-2, u) else (u 12 0 + 1 - 1, tzpt (tzpt (tzst (tzst (tzst u 0 (tzix (u 12 0)) kd) 1 (tzix (u 12 0)) x) 2 (tzix (u 12 0)) y) 12 (u 12 0 + 1)) 15 0)
def xParam (u : tzS) (i : Int32) : Int32 × tzS := if xIsP i = 0 then (-1, u) else xMake u 0 i 0
def xConst (u : tzS) (c : Int32) : Int32 × tzS := xMake u 1 c 0
def xComb (u : tzS) (kd x y : Int32) : Int32 × tzS := if kd < 0 then (-1, u) else if kd ≤ 2 then (if u 12 0 = 24 then (-2, u) else if xIsN u x = 0 then (-3, u) else if xIsN u y = 0 then (-3, u) else xMake u (2 + kd) x y) else (-1, u)
def xSq (u : tzS) (x : Int32) : Int32 × tzS := if u 12 0 = 24 then (-2, u) else if xIsN u x = 0 then (-3, u) else xMake u 5 x x
def xTerm (u : tzS) (k w : Int32) : Int32 × tzS := if xIsN u k = 0 then (-1, u) else if w < -20 then (-2, u) else if w ≤ 20 then (if u 13 0 = 8 then (-3, u) else (u 13 0 + 1, tzpt (tzpt (tzst (tzst u 3 (tzix (u 13 0)) k) 4 (tzix (u 13 0)) w) 13 (u 13 0 + 1)) 15 0)) else (-2, u)
def xClear (u : tzS) : Int32 × tzS := (u 12 0, tzpt (tzpt (tzpt u 12 0) 13 0) 15 0)
def xPlace (u : tzS) (c i x : Int32) : Int32 × tzS := if xIsC c = 0 then (-1, u) else if xIsP i = 0 then (-2, u) else (0, tzst u 5 (4 * tzix c + tzix i) x)
def xPush (u : tzS) (c i x : Int32) : Int32 × tzS := if xIsC c = 0 then (-1, u) else if xIsP i = 0 then (-2, u) else (0, tzst u 6 (4 * tzix c + tzix i) x)
def xShift (u : tzS) (x : Int32) : Int32 × tzS := if x < 0 then (-1, u) else if x ≤ 20 then (u 14 0, tzpt u 14 x) else (-1, u)
def xPos (u : tzS) (c i : Int32) : Int32 := if xIsC c = 0 then 0 else if xIsP i = 0 then 0 else u 5 (4 * tzix c + tzix i)
def xMom (u : tzS) (c i : Int32) : Int32 := if xIsC c = 0 then 0 else if xIsP i = 0 then 0 else u 6 (4 * tzix c + tzix i)
def xComp (u : tzS) (b k : Nat) : Int32 := tzcmp (u 0) (u 1) (u 2) (u 5) (u 7) b k
def xChg (u : tzS) (b k : Nat) : Int32 := tzchg (u 0) (u 1) (u 2) (u 6) (u 7) (u 9) b k
def xVal1 (b k : Nat) (z : tzS) : tzS := tzst z 7 k (xComp z b k)
def xVal (u : tzS) (c k : Int32) : Int32 × tzS := if xIsC c = 0 then (0, u) else if xIsN u k = 0 then (0, u) else ((tzit (xVal1 (4 * tzix c)) (tzix k + 1) u) 7 (tzix k), tzit (xVal1 (4 * tzix c)) (tzix k + 1) u)
def xClr1 (k : Nat) (z : tzS) : tzS := tzst z 10 k 0
def xTm1 (t : Nat) (z : tzS) : tzS := tzst z 10 (tzix (z 3 t)) 1
def xMk1 (k : Nat) (z : tzS) : tzS := if z 10 k = 0 then z else if xHas (z 0 k) = 0 then z else tzst (tzst z 10 (tzix (z 1 k)) 1) 10 (tzix (z 2 k)) 1
def xMark (u : tzS) : tzS := if u 15 0 = 0 then tzdn xMk1 (tzix (u 12 0)) (tzit xTm1 (tzix (u 13 0)) (tzit xClr1 24 (tzpt u 15 1))) else u
def xEv1 (b k : Nat) (z : tzS) : tzS := if z 10 k = 0 then z else tzst z 7 k (xComp z b k)
def xEvS (u : tzS) (b : Nat) : tzS := tzit (xEv1 b) (tzix (u 12 0)) (xMark u)
def xEvR (z : tzS) : Int32 := tzsm (fun t => z 4 t * z 7 (tzix (z 3 t))) (tzix (z 13 0))
def xPr (k : Nat) (z : tzS) : tzS := tzad (tzad z 8 (tzix (z 1 k)) (z 8 k * z 7 (tzix (z 2 k)))) 8 (tzix (z 2 k)) (z 8 k * z 7 (tzix (z 1 k)))
def xHand (k : Nat) (z : tzS) : tzS := if z 0 k = 0 then tzad z 11 (tzix (z 1 k)) (z 8 k) else if z 0 k = 2 then tzad (tzad z 8 (tzix (z 1 k)) (z 8 k)) 8 (tzix (z 2 k)) (z 8 k) else if z 0 k = 3 then tzsb (tzad z 8 (tzix (z 1 k)) (z 8 k)) 8 (tzix (z 2 k)) (z 8 k) else if z 0 k = 4 then xPr k z else if z 0 k = 5 then xPr k z else z
def xSh0 (k : Nat) (z : tzS) : tzS := tzst z 8 k 0
def xSl0 (i : Nat) (z : tzS) : tzS := tzst z 11 i 0
def xSh1 (t : Nat) (z : tzS) : tzS := tzad z 8 (tzix (z 3 t)) (z 4 t)
def xSw1 (k : Nat) (z : tzS) : tzS := if z 10 k = 0 then z else xHand k z
def xSwp (u : tzS) (b : Nat) : tzS := tzdn xSw1 (tzix (u 12 0)) (tzit xSh1 (tzix (u 13 0)) (tzit xSl0 4 (tzit xSh0 (tzix (u 12 0)) (xEvS u b))))
def xKk1 (b i : Nat) (z : tzS) : tzS := tzad z 6 (b + i) (z 11 i >>> (z 14 0 &&& 31))
def xKick (u : tzS) (b : Nat) : tzS := tzit (xKk1 b) 4 u
def xMv1 (b i : Nat) (z : tzS) : tzS := tzad z 5 (b + i) (z 6 (b + i))
def xLp1 (b : Nat) (_ : Nat) (z : tzS) : tzS := xKick (xSwp (tzit (xMv1 b) 4 (xKick z b)) b) b
def xLpS (u : tzS) (b n : Nat) : tzS := tzit (xLp1 b) n (xSwp u b)
def xLeap (u : tzS) (c n : Int32) : Int32 × tzS := if xIsC c = 0 then (-1, u) else if n < 0 then (-2, u) else if n ≤ 40 then (xEvR (xEvS (xLpS u (4 * tzix c) (tzix n)) (4 * tzix c)) &&& 255, xEvS (xLpS u (4 * tzix c) (tzix n)) (4 * tzix c)) else (-2, u)
def xTn1 (b i : Nat) (z : tzS) : tzS := tzst z 6 (b + i) (-(z 6 (b + i)))
def xTurn (u : tzS) (c : Int32) : Int32 × tzS := if xIsC c = 0 then (-1, u) else (0, tzit (xTn1 (4 * tzix c)) 4 u)
def xCp1 (f t i : Nat) (z : tzS) : tzS := tzst (tzst z 5 (t + i) (z 5 (f + i))) 6 (t + i) (z 6 (f + i))
def xCopy (u : tzS) (f t : Int32) : Int32 × tzS := if xIsC f = 0 then (-1, u) else if xIsC t = 0 then (-1, u) else (0, tzit (xCp1 (4 * tzix f) (4 * tzix t)) 4 u)
def xLive (u : tzS) : Int32 × tzS := (tzsm (fun k => if (xMark u) 10 k = 0 then 0 else 1) (tzix (u 12 0)), xMark u)
def xTgt (u : tzS) (c : Int32) : Int32 × tzS := if xIsC c = 0 then (0, u) else (xEvR (xEvS u (4 * tzix c)), xEvS u (4 * tzix c))
def xSlope (u : tzS) (c i : Int32) : Int32 × tzS := if xIsC c = 0 then (0, u) else if xIsP i = 0 then (0, u) else ((xSwp u (4 * tzix c)) 11 (tzix i), xSwp u (4 * tzix c))
def xDr1 (b k : Nat) (z : tzS) : tzS := if z 10 k = 0 then z else tzst z 9 k (xChg z b k)
def xDrS (u : tzS) (b : Nat) : tzS := tzit (xDr1 b) (tzix (u 12 0)) (xEvS u b)
def xDrR (z : tzS) : Int32 := tzsm (fun t => z 4 t * z 9 (tzix (z 3 t))) (tzix (z 13 0))
def xDrift (u : tzS) (c : Int32) : Int32 × tzS := if xIsC c = 0 then (0, u) else (xDrR (xDrS u (4 * tzix c)), xDrS u (4 * tzix c))
def xTat (u : tzS) (c i x : Int32) : Int32 × tzS := if xIsC c = 0 then (0, u) else if xIsP i = 0 then (0, u) else (xEvR (xEvS (tzst u 5 (4 * tzix c + tzix i) x) (4 * tzix c)), tzst (xEvS (tzst u 5 (4 * tzix c + tzix i) x) (4 * tzix c)) 5 (4 * tzix c + tzix i) (u 5 (4 * tzix c + tzix i)))
/-! TapeSamplerModel: 0 count 1 kind 2 first 3 second 4 many 5 node 6 weight 7 bits 8 xs 9 ms 10 value 11 rate 12 slopes 13 used -/
def mBadC (c : Int32) : Int32 := if c < 0 then 1 else if c ≤ 2 then 0 else 1
def mBadP (i : Int32) : Int32 := if i < 0 then 1 else if i ≤ 3 then 0 else 1
def mBadN (v : tzS) (k : Int32) : Int32 := if k < 0 then 1 else if v 0 0 ≤ k then 1 else if k ≤ 23 then 0 else 1
def mMake (v : tzS) (kd x y : Int32) : Int32 × tzS := if v 0 0 ≤ 23 then (v 0 0, tzpt (tzst (tzst (tzst v 1 (tzix (v 0 0)) kd) 2 (tzix (v 0 0)) x) 3 (tzix (v 0 0)) y) 0 (v 0 0 + 1)) else (-2, v)
def mParam (v : tzS) (i : Int32) : Int32 × tzS := if mBadP i = 0 then mMake v 4 i 0 else (-1, v)
def mConst (v : tzS) (c : Int32) : Int32 × tzS := mMake v 5 c 0
def mComb (v : tzS) (kd x y : Int32) : Int32 × tzS := if kd < 0 then (-1, v) else if kd ≤ 2 then (if v 0 0 ≤ 23 then (if mBadN v x = 0 then (if mBadN v y = 0 then mMake v kd x y else (-3, v)) else (-3, v)) else (-2, v)) else (-1, v)
def mSq (v : tzS) (x : Int32) : Int32 × tzS := if v 0 0 ≤ 23 then (if mBadN v x = 0 then mMake v 3 x x else (-3, v)) else (-2, v)
def mTerm (v : tzS) (k w : Int32) : Int32 × tzS := if mBadN v k = 0 then (if w < -20 then (-2, v) else if w ≤ 20 then (if v 4 0 ≤ 7 then (v 4 0 + 1, tzpt (tzst (tzst v 5 (tzix (v 4 0)) k) 6 (tzix (v 4 0)) w) 4 (v 4 0 + 1)) else (-3, v)) else (-2, v)) else (-1, v)
def mClear (v : tzS) : Int32 × tzS := (v 0 0, tzpt (tzpt v 0 0) 4 0)
def mPlace (v : tzS) (c i x : Int32) : Int32 × tzS := if mBadC c = 0 then (if mBadP i = 0 then (0, tzst v 8 (4 * tzix c + tzix i) x) else (-2, v)) else (-1, v)
def mPush (v : tzS) (c i x : Int32) : Int32 × tzS := if mBadC c = 0 then (if mBadP i = 0 then (0, tzst v 9 (4 * tzix c + tzix i) x) else (-2, v)) else (-1, v)
def mShift (v : tzS) (x : Int32) : Int32 × tzS := if x < 0 then (-1, v) else if x ≤ 20 then (v 7 0, tzpt v 7 x) else (-1, v)
def mPos (v : tzS) (c i : Int32) : Int32 := if mBadC c = 0 then (if mBadP i = 0 then v 8 (4 * tzix c + tzix i) else 0) else 0
def mMom (v : tzS) (c i : Int32) : Int32 := if mBadC c = 0 then (if mBadP i = 0 then v 9 (4 * tzix c + tzix i) else 0) else 0
def mWk1 (b : Nat) (i : Int32) (k : Nat) (z : tzS) : tzS :=
  if z 1 k = 4 then (if z 2 k = i then tzst (tzst z 10 k (z 8 (b + tzix (z 2 k)))) 11 k 1 else tzst (tzst z 10 k (z 8 (b + tzix (z 2 k)))) 11 k 0)
  else if z 1 k = 5 then tzst (tzst z 10 k (z 2 k)) 11 k 0
  else if z 1 k = 0 then tzst (tzst z 10 k (z 10 (tzix (z 2 k)) + z 10 (tzix (z 3 k)))) 11 k (z 11 (tzix (z 2 k)) + z 11 (tzix (z 3 k)))
  else if z 1 k = 1 then tzst (tzst z 10 k (z 10 (tzix (z 2 k)) - z 10 (tzix (z 3 k)))) 11 k (z 11 (tzix (z 2 k)) - z 11 (tzix (z 3 k)))
  else tzst (tzst z 10 k (z 10 (tzix (z 2 k)) * z 10 (tzix (z 3 k)))) 11 k (z 11 (tzix (z 2 k)) * (tzst z 10 k (z 10 (tzix (z 2 k)) * z 10 (tzix (z 3 k)))) 10 (tzix (z 3 k)) + (tzst z 10 k (z 10 (tzix (z 2 k)) * z 10 (tzix (z 3 k)))) 10 (tzix (z 2 k)) * z 11 (tzix (z 3 k)))
def mWork (v : tzS) (b : Nat) (i : Int32) : tzS := tzit (mWk1 b i) (tzix (v 0 0)) v
def mTot (v : tzS) : Int32 := tzsm (fun t => v 6 t * v 10 (tzix (v 5 t))) (tzix (v 4 0))
def mStp (v : tzS) : Int32 := tzsm (fun t => v 6 t * v 11 (tzix (v 5 t))) (tzix (v 4 0))
def mVal (v : tzS) (c k : Int32) : Int32 × tzS := if mBadC c = 0 then (if mBadN v k = 0 then ((mWork v (4 * tzix c) 0) 10 (tzix k), mWork v (4 * tzix c) 0) else (0, v)) else (0, v)
def mTgt (v : tzS) (c : Int32) : Int32 × tzS := if mBadC c = 0 then (mTot (mWork v (4 * tzix c) 0), mWork v (4 * tzix c) 0) else (0, v)
def mSlope (v : tzS) (c i : Int32) : Int32 × tzS := if mBadC c = 0 then (if mBadP i = 0 then (mStp (mWork v (4 * tzix c) i), mWork v (4 * tzix c) i) else (0, v)) else (0, v)
def mDr1 (b i : Nat) (z : tzS) : tzS := mWork z b (nI i)
def mDrR (v : tzS) (b i : Nat) : Int32 := (tzit (mDr1 b) (i + 1) v) 9 (b + i) * mStp (tzit (mDr1 b) (i + 1) v)
def mDrift (v : tzS) (c : Int32) : Int32 × tzS := if mBadC c = 0 then (tzsm (mDrR v (4 * tzix c)) 4, tzit (mDr1 (4 * tzix c)) 4 v) else (0, v)
def mTatS (v : tzS) (b j : Nat) (i x : Int32) : tzS := tzst (mWork (tzst v 8 (b + j) x) b i) 8 (b + j) (v 8 (b + j))
def mTat (v : tzS) (c i x : Int32) : Int32 × tzS := if mBadC c = 0 then (if mBadP i = 0 then (mTot (mTatS v (4 * tzix c) (tzix i) i x), mTatS v (4 * tzix c) (tzix i) i x) else (0, v)) else (0, v)
def mKk0 (b i : Nat) (z : tzS) : tzS := tzst (mWork z b (nI i)) 12 i (mStp (mWork z b (nI i)))
def mKk1 (b i : Nat) (z : tzS) : tzS := tzad z 9 (b + i) (z 12 i >>> (z 7 0 &&& 31))
def mKick (v : tzS) (b : Nat) : tzS := tzit (mKk1 b) 4 (tzit (mKk0 b) 4 v)
def mMv1 (b i : Nat) (z : tzS) : tzS := tzad z 8 (b + i) (z 9 (b + i))
def mLp1 (b : Nat) (_ : Nat) (z : tzS) : tzS := mKick (tzit (mMv1 b) 4 (mKick z b)) b
def mLpS (v : tzS) (b n : Nat) : tzS := mWork (tzit (mLp1 b) n v) b 0
def mLeap (v : tzS) (c n : Int32) : Int32 × tzS := if mBadC c = 0 then (if n < 0 then (-2, v) else if n ≤ 40 then (mTot (mLpS v (4 * tzix c) (tzix n)) &&& 255, mLpS v (4 * tzix c) (tzix n)) else (-2, v)) else (-1, v)
def mTn1 (b i : Nat) (z : tzS) : tzS := tzst z 9 (b + i) (-(z 9 (b + i)))
def mTurn (v : tzS) (c : Int32) : Int32 × tzS := if mBadC c = 0 then (0, tzit (mTn1 (4 * tzix c)) 4 v) else (-1, v)
def mCp1 (f t i : Nat) (z : tzS) : tzS := tzst (tzst z 8 (t + i) (z 8 (f + i))) 9 (t + i) (z 9 (f + i))
def mCopy (v : tzS) (f t : Int32) : Int32 × tzS := if mBadC f = 0 then (if mBadC t = 0 then (0, tzit (mCp1 (4 * tzix f) (4 * tzix t)) 4 v) else (-1, v)) else (-1, v)
def mUs0 (k : Nat) (z : tzS) : tzS := tzst z 13 k 0
def mUs1 (t : Nat) (z : tzS) : tzS := tzst z 13 (tzix (z 5 t)) 1
def mUs2 (k : Nat) (z : tzS) : tzS := if z 13 k = 0 then z else if 4 ≤ z 1 k then z else tzst (tzst z 13 (tzix (z 2 k)) 1) 13 (tzix (z 3 k)) 1
def mCn1 (k : Nat) (z : tzS) (x : Int32) : Int32 := if z 13 k = 0 then x else x + 1
def mCnt : Nat → tzS → Int32 → Int32
  | 0, _, x => x
  | n + 1, z, x => mCnt n (mUs2 n z) (mCn1 n z x)
def mLvS (v : tzS) : tzS := tzit mUs1 (tzix (v 4 0)) (tzit mUs0 24 v)
def mLive (v : tzS) : Int32 × tzS := (mCnt (tzix (v 0 0)) (mLvS v) 0, tzdn mUs2 (tzix (v 0 0)) (mLvS v))
/-! what a state must be so that the code stays within its arrays -/
def tznok (k : Nat) (kd x y : Int32) : Prop := (kd = 0 ∧ tzat x (tzix x) 4) ∨ kd = 1 ∨ ((kd = 2 ∨ kd = 3 ∨ kd = 4 ∨ kd = 5) ∧ tzat x (tzix x) k ∧ tzat y (tzix y) k)
def tzWF (u : tzS) (n t : Nat) : Prop := u 12 0 = nI n ∧ n ≤ 24 ∧ u 13 0 = nI t ∧ t ≤ 8 ∧ (∀ k, k < n → tznok k (u 0 k) (u 1 k) (u 2 k)) ∧ (∀ j, j < t → tzat (u 3 j) (tzix (u 3 j)) n)
def tzmok (k : Nat) (kd x y : Int32) : Prop := (kd = 4 ∧ tzat x (tzix x) 4) ∨ kd = 5 ∨ ((kd = 0 ∨ kd = 1 ∨ kd = 2 ∨ kd = 3) ∧ tzat x (tzix x) k ∧ tzat y (tzix y) k)
def tzWM (v : tzS) (n t : Nat) : Prop := v 0 0 = nI n ∧ n ≤ 24 ∧ v 4 0 = nI t ∧ t ≤ 8 ∧ (∀ k, k < n → tzmok k (v 1 k) (v 2 k) (v 3 k)) ∧ (∀ j, j < t → tzat (v 5 j) (tzix (v 5 j)) n)
end
section
set_option maxRecDepth 100000
/-! small facts that the walks use -/
theorem tz_isC {x : Int32} (h : ¬ xIsC x = 0) : tzat x (tzix x) 3 := by
  unfold xIsC at h
  by_cases h1 : x < 0
  · rw [if_pos h1] at h
    exact absurd rfl h
  · rw [if_neg h1] at h
    by_cases h2 : 2 < x
    · rw [if_pos h2] at h
      exact absurd rfl h
    · obtain ⟨j, hj, e⟩ := nI_of2 (M := 2) (n := 2) (by decide) h1 (Int32.not_lt.mp h2)
      exact tzat_ix e (by omega) (by decide)
theorem tz_isP {x : Int32} (h : ¬ xIsP x = 0) : tzat x (tzix x) 4 := by
  unfold xIsP at h
  by_cases h1 : x < 0
  · rw [if_pos h1] at h
    exact absurd rfl h
  · rw [if_neg h1] at h
    by_cases h2 : 4 ≤ x
    · rw [if_pos h2] at h
      exact absurd rfl h
    · rcases pk_ix x (n := 4) (by decide) with q | q | ⟨j, hj, e⟩
      · exact absurd q h1
      · exact absurd q h2
      · exact tzat_ix e hj (by decide)
theorem tz_isN {u : tzS} {x : Int32} {n : Nat} (hn : u 12 0 = nI n) (h24 : n ≤ 24) (h : ¬ xIsN u x = 0) : tzat x (tzix x) n := by
  unfold xIsN at h
  by_cases h1 : x < 0
  · rw [if_pos h1] at h
    exact absurd rfl h
  · rw [if_neg h1] at h
    by_cases h2 : u 12 0 ≤ x
    · rw [if_pos h2] at h
      exact absurd rfl h
    · rcases pk_ix x (n := n) (by omega) with q | q | ⟨j, hj, e⟩
      · exact absurd q h1
      · exact absurd (hn ▸ q) h2
      · exact tzat_ix e hj (by omega)
theorem tz_bC {x : Int32} (h : mBadC x = 0) : tzat x (tzix x) 3 := by
  unfold mBadC at h
  by_cases h1 : x < 0
  · rw [if_pos h1] at h
    exact absurd h (by decide)
  · rw [if_neg h1] at h
    by_cases h2 : x ≤ 2
    · obtain ⟨j, hj, e⟩ := nI_of2 (M := 2) (n := 2) (by decide) h1 h2
      exact tzat_ix e (by omega) (by decide)
    · rw [if_neg h2] at h
      exact absurd h (by decide)
theorem tz_bP {x : Int32} (h : mBadP x = 0) : tzat x (tzix x) 4 := by
  unfold mBadP at h
  by_cases h1 : x < 0
  · rw [if_pos h1] at h
    exact absurd h (by decide)
  · rw [if_neg h1] at h
    by_cases h2 : x ≤ 3
    · obtain ⟨j, hj, e⟩ := nI_of2 (M := 3) (n := 3) (by decide) h1 h2
      exact tzat_ix e (by omega) (by decide)
    · rw [if_neg h2] at h
      exact absurd h (by decide)
theorem tz_bN {v : tzS} {x : Int32} {n : Nat} (hn : v 0 0 = nI n) (h24 : n ≤ 24) (h : mBadN v x = 0) : tzat x (tzix x) n := by
  unfold mBadN at h
  by_cases h1 : x < 0
  · rw [if_pos h1] at h
    exact absurd h (by decide)
  · rw [if_neg h1] at h
    by_cases h2 : v 0 0 ≤ x
    · rw [if_pos h2] at h
      exact absurd h (by decide)
    · rcases pk_ix x (n := n) (by omega) with q | q | ⟨j, hj, e⟩
      · exact absurd q h1
      · exact absurd (hn ▸ q) h2
      · exact tzat_ix e hj (by omega)
theorem tz_4b {x : Int32} {i : Nat} (h : tzat x i 3) : 4 * x = nI (4 * i) := by
  rw [h.1, show (4 : Int32) = nI 4 from by decide +kernel, pk_mul]
theorem tz_4 {x y : Int32} {i j : Nat} (h : tzat x i 3) (h2 : tzat y j 4) : tzat (4 * x + y) (4 * i + j) 12 := by
  refine ⟨?_, by have := h.2; have := h2.2; omega⟩
  rw [tz_4b h, h2.1, nI_add]
theorem tz_b {x y : Int32} {b j : Nat} (h : x = nI b) (hb : b ≤ 8) (h2 : tzat y j 4) : tzat (x + y) (b + j) 12 := by
  refine ⟨?_, by have := h2.2; omega⟩
  rw [h, h2.1, nI_add]
theorem tz_4le {x : Int32} {i : Nat} (h : tzat x i 3) : 4 * i ≤ 8 := by have := h.2; omega
theorem tz_lt24 {u : tzS} {n t : Nat} (hW : tzWF u n t) (h : ¬ u 12 0 = 24) : tzat (u 12 0) (tzix (u 12 0)) 24 := by
  refine tzat_ix hW.1 ?_ (by decide)
  rcases Nat.lt_or_ge n 24 with q | q
  · exact q
  · refine absurd ?_ h
    rw [hW.1, show n = 24 by have := hW.2.1; omega]
    decide +kernel
theorem tz_lt8 {u : tzS} {n t : Nat} (hW : tzWF u n t) (h : ¬ u 13 0 = 8) : tzat (u 13 0) (tzix (u 13 0)) 8 := by
  refine tzat_ix hW.2.2.1 ?_ (by decide)
  rcases Nat.lt_or_ge t 8 with q | q
  · exact q
  · refine absurd ?_ h
    rw [hW.2.2.1, show t = 8 by have := hW.2.2.2.1; omega]
    decide +kernel
theorem tz_le23 {v : tzS} {n t : Nat} (hW : tzWM v n t) (h : v 0 0 ≤ 23) : tzat (v 0 0) (tzix (v 0 0)) 24 := by
  refine tzat_ix hW.1 ?_ (by decide)
  rw [hW.1, show (23 : Int32) = nI 23 from by decide +kernel, nI_leI (by have := hW.2.1; omega) (by decide)] at h
  omega
theorem tz_le7 {v : tzS} {n t : Nat} (hW : tzWM v n t) (h : v 4 0 ≤ 7) : tzat (v 4 0) (tzix (v 4 0)) 8 := by
  refine tzat_ix hW.2.2.1 ?_ (by decide)
  rw [hW.2.2.1, show (7 : Int32) = nI 7 from by decide +kernel, nI_leI (by have := hW.2.2.2.1; omega) (by decide)] at h
  omega
theorem tznok.p {k : Nat} {kd x y : Int32} (h : tznok k kd x y) (h0 : kd = 0) : tzat x (tzix x) 4 := by
  rcases h with q | q | ⟨q, -⟩
  · exact q.2
  · subst h0; exact absurd q (by decide)
  · subst h0; exact absurd q (by decide)
theorem tznok.c {k : Nat} {kd x y : Int32} (h : tznok k kd x y) (h0 : ¬ kd = 0) (h1 : ¬ kd = 1) : tzat x (tzix x) k ∧ tzat y (tzix y) k := by
  rcases h with q | q | ⟨-, q⟩
  · exact absurd q.1 h0
  · exact absurd q h1
  · exact q
theorem tzmok.p {k : Nat} {kd x y : Int32} (h : tzmok k kd x y) (h0 : kd = 4) : tzat x (tzix x) 4 := by
  rcases h with q | q | ⟨q, -⟩
  · exact q.2
  · subst h0; exact absurd q (by decide)
  · subst h0; exact absurd q (by decide)
theorem tzmok.c {k : Nat} {kd x y : Int32} (h : tzmok k kd x y) (h0 : ¬ kd = 4) (h1 : ¬ kd = 5) : tzat x (tzix x) k ∧ tzat y (tzix y) k := by
  rcases h with q | q | ⟨-, q⟩
  · exact absurd q.1 h0
  · exact absurd q h1
  · exact q
end
section
set_option maxRecDepth 100000
theorem tzit_0 (f : Nat → tzS → tzS) (u : tzS) : tzit f 0 u = u := rfl
theorem tzit_s (f : Nat → tzS → tzS) (n : Nat) (u : tzS) : tzit f (n + 1) u = f n (tzit f n u) := rfl
/-! which fields a step leaves alone -/
def tzKp (S : List Nat) (u u' : tzS) : Prop := ∀ k, k ∉ S → u' k = u k
section KP
variable {S S' : List Nat} {u u' u'' z : tzS} {f : Nat → tzS → tzS} {k i n : Nat} {x : Int32}
theorem tzKp.rf : tzKp S u u := fun _ _ => rfl
theorem tzKp.tr (h : tzKp S u u') (h2 : tzKp S u' u'') : tzKp S u u'' := fun k hk => (h2 k hk).trans (h k hk)
theorem tzKp.mono (h : tzKp S u u') (hs : ∀ k, k ∈ S → k ∈ S') : tzKp S' u u' := fun k hk => h k (fun q => hk (hs k q))
theorem tzKp.st (h : tzKp S u z) (hk : k ∈ S) : tzKp S u (tzst z k i x) := fun j hj => (va_up_ne (k := k) (j := j) z _ (fun e => hj (by rw [e]; exact hk))).trans (h j hj)
theorem tzKp.pt (h : tzKp S u z) (hk : k ∈ S) : tzKp S u (tzpt z k x) := fun j hj => (va_up_ne (k := k) (j := j) z _ (fun e => hj (by rw [e]; exact hk))).trans (h j hj)
theorem tzKp.ad (h : tzKp S u z) (hk : k ∈ S) : tzKp S u (tzad z k i x) := h.st hk
theorem tzKp.sb (h : tzKp S u z) (hk : k ∈ S) : tzKp S u (tzsb z k i x) := h.st hk
theorem tzKp.it (h : tzKp S u z) (hf : ∀ i z, tzKp S z (f i z)) : tzKp S u (tzit f n z) := by
  induction n with
  | zero => exact h
  | succ n ih => exact ih.tr (hf n _)
theorem tzKp.dn (hf : ∀ i z, tzKp S z (f i z)) : ∀ (n : Nat) (z : tzS), tzKp S u z → tzKp S u (tzdn f n z) := by
  intro n
  induction n with
  | zero => exact fun z h => h
  | succ n ih => exact fun z h => ih _ (h.tr (hf n z))
theorem tzKp.ite {c : Prop} {d : Decidable c} (h1 : tzKp S u z) (h2 : tzKp S u u') : tzKp S u (if c then z else u') := by
  by_cases h : c
  · rw [if_pos h]; exact h1
  · rw [if_neg h]; exact h2
end KP
theorem tzWF.kp {S : List Nat} {u u' : tzS} {n t : Nat} (hW : tzWF u n t) (h : tzKp S u u') (hd : ∀ k ∈ [0, 1, 2, 3, 12, 13], k ∉ S) : tzWF u' n t := by
  unfold tzWF
  rw [h 0 (hd 0 (by decide)), h 1 (hd 1 (by decide)), h 2 (hd 2 (by decide)), h 3 (hd 3 (by decide)), h 12 (hd 12 (by decide)), h 13 (hd 13 (by decide))]
  exact hW
theorem tzWF.n {u : tzS} {n t : Nat} (hW : tzWF u n t) : tzix (u 12 0) = n := by
  rw [hW.1]
  exact tzix_nI (by have := hW.2.1; omega)
theorem tzWF.t {u : tzS} {n t : Nat} (hW : tzWF u n t) : tzix (u 13 0) = t := by
  rw [hW.2.2.1]
  exact tzix_nI (by have := hW.2.2.2.1; omega)
theorem tzWF.nd {u : tzS} {n t : Nat} (hW : tzWF u n t) {k : Nat} (hk : k < n) : tznok k (u 0 k) (u 1 k) (u 2 k) := hW.2.2.2.2.1 k hk
theorem tzWF.tn {u : tzS} {n t : Nat} (hW : tzWF u n t) {k : Nat} (hk : k < t) : tzat (u 3 k) (tzix (u 3 k)) 24 := (hW.2.2.2.2.2 k hk).le hW.2.1
theorem tzWM.kp {S : List Nat} {u u' : tzS} {n t : Nat} (hW : tzWM u n t) (h : tzKp S u u') (hd : ∀ k ∈ [0, 1, 2, 3, 4, 5], k ∉ S) : tzWM u' n t := by
  unfold tzWM
  rw [h 0 (hd 0 (by decide)), h 1 (hd 1 (by decide)), h 2 (hd 2 (by decide)), h 3 (hd 3 (by decide)), h 4 (hd 4 (by decide)), h 5 (hd 5 (by decide))]
  exact hW
theorem tzWM.n {u : tzS} {n t : Nat} (hW : tzWM u n t) : tzix (u 0 0) = n := by
  rw [hW.1]
  exact tzix_nI (by have := hW.2.1; omega)
theorem tzWM.t {u : tzS} {n t : Nat} (hW : tzWM u n t) : tzix (u 4 0) = t := by
  rw [hW.2.2.1]
  exact tzix_nI (by have := hW.2.2.2.1; omega)
theorem tzWM.nd {u : tzS} {n t : Nat} (hW : tzWM u n t) {k : Nat} (hk : k < n) : tzmok k (u 1 k) (u 2 k) (u 3 k) := hW.2.2.2.2.1 k hk
theorem tzWM.tn {u : tzS} {n t : Nat} (hW : tzWM u n t) {k : Nat} (hk : k < t) : tzat (u 5 k) (tzix (u 5 k)) 24 := (hW.2.2.2.2.2 k hk).le hW.2.1
/-! TapeSampler -/
theorem xClr1_kp (k : Nat) (z : tzS) : tzKp [10, 15] z (xClr1 k z) := tzKp.rf.st (by decide)
theorem xTm1_kp (k : Nat) (z : tzS) : tzKp [10, 15] z (xTm1 k z) := tzKp.rf.st (by decide)
theorem xMk1_kp (k : Nat) (z : tzS) : tzKp [10, 15] z (xMk1 k z) := .ite .rf (.ite .rf ((tzKp.rf.st (by decide)).st (by decide)))
theorem xMkA_kp (u : tzS) (i : Nat) : tzKp [10, 15] u (tzit xClr1 i (tzpt u 15 1)) := (tzKp.rf.pt (by decide)).it xClr1_kp
theorem xMkB_kp (u : tzS) (i : Nat) : tzKp [10, 15] u (tzit xTm1 i (tzit xClr1 24 (tzpt u 15 1))) := (xMkA_kp u 24).it xTm1_kp
theorem xMark_kp (u : tzS) : tzKp [10, 15] u (xMark u) := .ite (tzKp.dn xMk1_kp _ _ (xMkB_kp u _)) .rf
theorem xEv1_kp (b k : Nat) (z : tzS) : tzKp [7, 10, 15] z (xEv1 b k z) := .ite .rf (tzKp.rf.st (by decide))
theorem xEvI_kp (u : tzS) (b i : Nat) : tzKp [7, 10, 15] u (tzit (xEv1 b) i (xMark u)) := ((xMark_kp u).mono (by decide)).it (xEv1_kp b)
theorem xEvS_kp (u : tzS) (b : Nat) : tzKp [7, 10, 15] u (xEvS u b) := xEvI_kp u b _
theorem xVal1_kp (b k : Nat) (z : tzS) : tzKp [7] z (xVal1 b k z) := tzKp.rf.st (by decide)
theorem xValI_kp (u : tzS) (b i : Nat) : tzKp [7] u (tzit (xVal1 b) i u) := tzKp.rf.it (xVal1_kp b)
theorem xPr_kp (k : Nat) (z : tzS) : tzKp [7, 8, 10, 11, 15] z (xPr k z) := (tzKp.rf.ad (by decide)).ad (by decide)
theorem xHand_kp (k : Nat) (z : tzS) : tzKp [7, 8, 10, 11, 15] z (xHand k z) := .ite (tzKp.rf.ad (by decide)) (.ite ((tzKp.rf.ad (by decide)).ad (by decide)) (.ite ((tzKp.rf.ad (by decide)).sb (by decide)) (.ite (xPr_kp k z) (.ite (xPr_kp k z) .rf))))
theorem xHand_kp2 (k : Nat) (z : tzS) : tzKp [8, 11] z (xHand k z) := .ite (tzKp.rf.ad (by decide)) (.ite ((tzKp.rf.ad (by decide)).ad (by decide)) (.ite ((tzKp.rf.ad (by decide)).sb (by decide)) (.ite ((tzKp.rf.ad (by decide)).ad (by decide)) (.ite ((tzKp.rf.ad (by decide)).ad (by decide)) .rf))))
theorem xSw1_kp (k : Nat) (z : tzS) : tzKp [7, 8, 10, 11, 15] z (xSw1 k z) := .ite .rf (xHand_kp k z)
theorem xSw1_kp2 (k : Nat) (z : tzS) : tzKp [8, 11] z (xSw1 k z) := .ite .rf (xHand_kp2 k z)
theorem xSwA_kp (u : tzS) (b i : Nat) : tzKp [7, 8, 10, 11, 15] u (tzit xSh0 i (xEvS u b)) := ((xEvS_kp u b).mono (by decide)).it (fun _ _ => tzKp.rf.st (by decide))
theorem xSwB_kp (u : tzS) (b n i : Nat) : tzKp [7, 8, 10, 11, 15] u (tzit xSl0 i (tzit xSh0 n (xEvS u b))) := (xSwA_kp u b n).it (fun _ _ => tzKp.rf.st (by decide))
theorem xSwC_kp (u : tzS) (b n i : Nat) : tzKp [7, 8, 10, 11, 15] u (tzit xSh1 i (tzit xSl0 4 (tzit xSh0 n (xEvS u b)))) := (xSwB_kp u b n 4).it (fun _ _ => tzKp.rf.ad (by decide))
theorem xSwp_kp (u : tzS) (b : Nat) : tzKp [7, 8, 10, 11, 15] u (xSwp u b) := tzKp.dn xSw1_kp _ _ (xSwC_kp u b _ _)
theorem xKick_kp (u : tzS) (b : Nat) : tzKp [6] u (xKick u b) := tzKp.rf.it (fun _ _ => tzKp.rf.ad (by decide))
theorem xMvI_kp (u : tzS) (b i : Nat) : tzKp [5] u (tzit (xMv1 b) i u) := tzKp.rf.it (fun _ _ => tzKp.rf.ad (by decide))
theorem xLp1_kp (b i : Nat) (z : tzS) : tzKp [5, 6, 7, 8, 10, 11, 15] z (xLp1 b i z) := ((((xKick_kp z b).mono (by decide)).tr ((xMvI_kp _ b 4).mono (by decide))).tr ((xSwp_kp _ b).mono (by decide))).tr ((xKick_kp _ b).mono (by decide))
theorem xLpI_kp (u : tzS) (b i : Nat) : tzKp [5, 6, 7, 8, 10, 11, 15] u (tzit (xLp1 b) i (xSwp u b)) := ((xSwp_kp u b).mono (by decide)).it (xLp1_kp b)
theorem xDrI_kp (u : tzS) (b i : Nat) : tzKp [7, 9, 10, 15] u (tzit (xDr1 b) i (xEvS u b)) := ((xEvS_kp u b).mono (by decide)).it (fun _ _ => .ite .rf (tzKp.rf.st (by decide)))
/-! TapeSamplerModel -/
theorem mWk1_kp (b : Nat) (i : Int32) (k : Nat) (z : tzS) : tzKp [10, 11] z (mWk1 b i k z) := .ite (.ite ((tzKp.rf.st (by decide)).st (by decide)) ((tzKp.rf.st (by decide)).st (by decide))) (.ite ((tzKp.rf.st (by decide)).st (by decide)) (.ite ((tzKp.rf.st (by decide)).st (by decide)) (.ite ((tzKp.rf.st (by decide)).st (by decide)) ((tzKp.rf.st (by decide)).st (by decide)))))
theorem mWkI_kp (v : tzS) (b : Nat) (i : Int32) (k : Nat) : tzKp [10, 11] v (tzit (mWk1 b i) k v) := tzKp.rf.it (mWk1_kp b i)
theorem mWork_kp (v : tzS) (b : Nat) (i : Int32) : tzKp [10, 11] v (mWork v b i) := mWkI_kp v b i _
theorem mDrI_kp (v : tzS) (b i : Nat) : tzKp [10, 11] v (tzit (mDr1 b) i v) := tzKp.rf.it (fun _ z => mWork_kp z b _)
theorem mKk0_kp (b i : Nat) (z : tzS) : tzKp [10, 11, 12] z (mKk0 b i z) := ((mWork_kp z b _).mono (by decide)).st (by decide)
theorem mKkA_kp (v : tzS) (b i : Nat) : tzKp [10, 11, 12] v (tzit (mKk0 b) i v) := tzKp.rf.it (mKk0_kp b)
theorem mKkB_kp (v : tzS) (b i : Nat) : tzKp [9, 10, 11, 12] v (tzit (mKk1 b) i (tzit (mKk0 b) 4 v)) := ((mKkA_kp v b 4).mono (by decide)).it (fun _ _ => tzKp.rf.ad (by decide))
theorem mKick_kp (v : tzS) (b : Nat) : tzKp [9, 10, 11, 12] v (mKick v b) := mKkB_kp v b 4
theorem mMvI_kp (v : tzS) (b i : Nat) : tzKp [8] v (tzit (mMv1 b) i v) := tzKp.rf.it (fun _ _ => tzKp.rf.ad (by decide))
theorem mLp1_kp (b i : Nat) (z : tzS) : tzKp [8, 9, 10, 11, 12] z (mLp1 b i z) := (((mKick_kp z b).mono (by decide)).tr ((mMvI_kp _ b 4).mono (by decide))).tr ((mKick_kp _ b).mono (by decide))
theorem mLpI_kp (v : tzS) (b i : Nat) : tzKp [8, 9, 10, 11, 12] v (tzit (mLp1 b) i v) := tzKp.rf.it (mLp1_kp b)
theorem mUs2_kp (k : Nat) (z : tzS) : tzKp [13] z (mUs2 k z) := .ite .rf (.ite .rf ((tzKp.rf.st (by decide)).st (by decide)))
theorem mLvA_kp (v : tzS) (i : Nat) : tzKp [13] v (tzit mUs0 i v) := tzKp.rf.it (fun _ _ => tzKp.rf.st (by decide))
theorem mLvB_kp (v : tzS) (i : Nat) : tzKp [13] v (tzit mUs1 i (tzit mUs0 24 v)) := (mLvA_kp v 24).it (fun _ _ => tzKp.rf.st (by decide))
/-! numbers -/
theorem tznok.s {k : Nat} {kd x y : Int32} (h : tznok k kd x y) (h0 : kd = 2 ∨ kd = 3 ∨ kd = 4 ∨ kd = 5) : tzat x (tzix x) k ∧ tzat y (tzix y) k := by
  rcases h with q | q | ⟨-, q⟩
  · rcases h0 with e | e | e | e <;> exact absurd (e.symm.trans q.1) (by decide)
  · rcases h0 with e | e | e | e <;> exact absurd (e.symm.trans q) (by decide)
  · exact q
theorem tznok.h {k : Nat} {kd x y : Int32} (h : tznok k kd x y) (h0 : ¬ xHas kd = 0) : tzat x (tzix x) k ∧ tzat y (tzix y) k := by
  refine h.c (fun e => h0 ?_) (fun e => h0 ?_)
  · rw [e]; decide
  · rw [e]; decide
theorem tzmok.h {k : Nat} {kd x y : Int32} (h : tzmok k kd x y) (h0 : ¬ 4 ≤ kd) : tzat x (tzix x) k ∧ tzat y (tzix y) k := by
  refine h.c (fun e => h0 ?_) (fun e => h0 ?_)
  · rw [e]; decide
  · rw [e]; decide
theorem tz_4b4 {x : Int32} {i : Nat} (h : tzat x i 3) : 4 * x + 4 = nI (4 * i + 4) := by
  rw [tz_4b h, show (4 : Int32) = nI 4 from by decide +kernel, nI_add]
theorem tz_gtf {x : Int32} {i k n : Nat} (h : tzat x k n) (hi : i < k + 1) (hn : n ≤ 2 ^ 31) : ¬ x < nI i := by
  rw [h.1]
  exact nI_nlt (by omega) (by have := h.2; omega)
theorem tz_gtt {x : Int32} {k n : Nat} (h : tzat x k n) (hn : n < 2 ^ 31) : x < nI (k + 1) := by
  rw [h.1]
  exact nI_lt (by omega) (by have := h.2; omega)
theorem tz_gef {x : Int32} {i k n : Nat} (h : tzat x k n) (hi : i < k) (hn : n ≤ 2 ^ 31) : ¬ x ≤ nI i := by
  rw [h.1]
  exact nI_ge hi (by have := h.2; omega)
theorem tz_get {x : Int32} {k n : Nat} (h : tzat x k n) : x ≤ nI k := by
  rw [h.1]
  exact Int32.le_refl _
theorem tz_40 {x : Int32} (h : ¬ x < 0) (h2 : x ≤ 40) : tzat x (tzix x) 41 := by
  obtain ⟨j, hj, e⟩ := nI_of2 (M := 40) (n := 40) (by decide) h h2
  exact tzat_ix e (by omega) (by decide)
end
section
set_option maxRecDepth 100000
set_option maxHeartbeats 4000000 in
set_option maxRecDepth 100000 in
theorem kX0_isChain (l : Launch) (D : va_G) (a : Nat → Nat) (c : Nat → ClassId) (u : tzS) (ch : Int32) : tzMi l yX0_isChain cX0_isChain 1 .boolean (tzR 0) D (wX0 a c) (tX0 c) [.int ch] u (xIsC ch) u := by
  refine tzMi.mk RX0 (by decide) rfl (Nat.le_of_ble_eq_true rfl) ?_
  intro p e s m below meth cd A ls Z hr hlk hA Y hl
  have hx := Z.1.1
  have hb := Z.1.2.1
  have hl : lv_has ls 1 [(0, .int ch)] := hl
  refine lv_iload_n hx hb dX0_isChain_0 rfl (lv_at hl 0 rfl) ?_
  refine lv_if_lt (tgt := 13) hx hb dX0_isChain_1 (by decide) (fun c_1 => ?_) (fun c_1 => ?_)
  · refine lv_iconst (v := 0) hx hb dX0_isChain_13 (by decide) ?_
    exact tz_rz Z hr hlk Y rfl dX0_isChain_14 (by rw [xIsC, if_pos c_1] <;> rfl) rfl
  · refine lv_iload_n hx hb dX0_isChain_4 rfl (lv_at hl 0 rfl) ?_
    refine lv_iconst (v := 2) hx hb dX0_isChain_5 (by decide) ?_
    refine lv_icmp_gt (tgt := 13) hx hb dX0_isChain_6 (by decide) (fun c_6 => ?_) (fun c_6 => ?_)
    · refine lv_iconst (v := 0) hx hb dX0_isChain_13 (by decide) ?_
      exact tz_rz Z hr hlk Y rfl dX0_isChain_14 (by rw [xIsC, if_neg c_1, if_pos c_6] <;> rfl) rfl
    · refine lv_iconst (v := 1) hx hb dX0_isChain_9 (by decide) ?_
      refine lv_goto (tgt := 14) hx hb dX0_isChain_10 (by decide) ?_
      exact tz_rz Z hr hlk Y rfl dX0_isChain_14 (by rw [xIsC, if_neg c_1, if_neg c_6] <;> rfl) rfl
set_option maxHeartbeats 4000000 in
set_option maxRecDepth 100000 in
theorem kX0_isParameter (l : Launch) (D : va_G) (a : Nat → Nat) (c : Nat → ClassId) (u : tzS) (j : Int32) : tzMi l yX0_isParameter cX0_isParameter 1 .boolean (tzR 0) D (wX0 a c) (tX0 c) [.int j] u (xIsP j) u := by
  refine tzMi.mk RX0 (by decide) rfl (Nat.le_of_ble_eq_true rfl) ?_
  intro p e s m below meth cd A ls Z hr hlk hA Y hl
  have hx := Z.1.1
  have hb := Z.1.2.1
  have hl : lv_has ls 1 [(0, .int j)] := hl
  refine lv_iload_n hx hb dX0_isParameter_0 rfl (lv_at hl 0 rfl) ?_
  refine lv_if_lt (tgt := 13) hx hb dX0_isParameter_1 (by decide) (fun c_1 => ?_) (fun c_1 => ?_)
  · refine lv_iconst (v := 0) hx hb dX0_isParameter_13 (by decide) ?_
    exact tz_rz Z hr hlk Y rfl dX0_isParameter_14 (by rw [xIsP, if_pos c_1] <;> rfl) rfl
  · refine lv_iload_n hx hb dX0_isParameter_4 rfl (lv_at hl 0 rfl) ?_
    refine lv_iconst (v := 4) hx hb dX0_isParameter_5 (by decide) ?_
    refine lv_icmp_ge (tgt := 13) hx hb dX0_isParameter_6 (by decide) (fun c_6 => ?_) (fun c_6 => ?_)
    · refine lv_iconst (v := 0) hx hb dX0_isParameter_13 (by decide) ?_
      exact tz_rz Z hr hlk Y rfl dX0_isParameter_14 (by rw [xIsP, if_neg c_1, if_pos c_6] <;> rfl) rfl
    · refine lv_iconst (v := 1) hx hb dX0_isParameter_9 (by decide) ?_
      refine lv_goto (tgt := 14) hx hb dX0_isParameter_10 (by decide) ?_
      exact tz_rz Z hr hlk Y rfl dX0_isParameter_14 (by rw [xIsP, if_neg c_1, if_neg c_6] <;> rfl) rfl
set_option maxHeartbeats 4000000 in
set_option maxRecDepth 100000 in
theorem kX0_isNode (l : Launch) (D : va_G) (a : Nat → Nat) (c : Nat → ClassId) (u : tzS) (k : Int32) : tzMi l yX0_isNode cX0_isNode 2 .boolean (tzR 0) D (wX0 a c) (tX0 c) [.ref (a 16), .int k] u (xIsN u k) u := by
  refine tzMi.mk RX0 (by decide) rfl (Nat.le_of_ble_eq_true rfl) ?_
  intro p e s m below meth cd A ls Z hr hlk hA Y hl
  have hx := Z.1.1
  have hb := Z.1.2.1
  have hl : lv_has ls 2 [(0, .ref (a 16)), (1, .int k)] := hl
  refine lv_iload_n hx hb dX0_isNode_0 rfl (lv_at hl 1 rfl) ?_
  refine lv_if_lt (tgt := 16) hx hb dX0_isNode_1 (by decide) (fun c_1 => ?_) (fun c_1 => ?_)
  · refine lv_iconst (v := 0) hx hb dX0_isNode_16 (by decide) ?_
    exact tz_rz Z hr hlk Y rfl dX0_isNode_17 (by rw [xIsN, if_pos c_1] <;> rfl) rfl
  · refine lv_iload_n hx hb dX0_isNode_4 rfl (lv_at hl 1 rfl) ?_
    refine lv_aload_n hx hb dX0_isNode_5 rfl (lv_at hl 0 rfl) ?_
    refine x0_geti 12 (by decide) Z Y q40 dX0_isNode_6 ?_
    refine lv_icmp_ge (tgt := 16) hx hb dX0_isNode_9 (by decide) (fun c_9 => ?_) (fun c_9 => ?_)
    · refine lv_iconst (v := 0) hx hb dX0_isNode_16 (by decide) ?_
      exact tz_rz Z hr hlk Y rfl dX0_isNode_17 (by rw [xIsN, if_neg c_1, if_pos c_9] <;> rfl) rfl
    · refine lv_iconst (v := 1) hx hb dX0_isNode_12 (by decide) ?_
      refine lv_goto (tgt := 17) hx hb dX0_isNode_13 (by decide) ?_
      exact tz_rz Z hr hlk Y rfl dX0_isNode_17 (by rw [xIsN, if_neg c_1, if_neg c_9] <;> rfl) rfl
set_option maxHeartbeats 4000000 in
set_option maxRecDepth 100000 in
theorem kX0_hasParts (l : Launch) (D : va_G) (a : Nat → Nat) (c : Nat → ClassId) (u : tzS) (kd : Int32) : tzMi l yX0_hasParts cX0_hasParts 1 .boolean (tzR 0) D (wX0 a c) (tX0 c) [.int kd] u (xHas kd) u := by
  refine tzMi.mk RX0 (by decide) rfl (Nat.le_of_ble_eq_true rfl) ?_
  intro p e s m below meth cd A ls Z hr hlk hA Y hl
  have hx := Z.1.1
  have hb := Z.1.2.1
  have hl : lv_has ls 1 [(0, .int kd)] := hl
  refine lv_iload_n hx hb dX0_hasParts_0 rfl (lv_at hl 0 rfl) ?_
  refine lv_iconst (v := 2) hx hb dX0_hasParts_1 (by decide) ?_
  refine lv_icmp_lt (tgt := 9) hx hb dX0_hasParts_2 (by decide) (fun c_2 => ?_) (fun c_2 => ?_)
  · refine lv_iconst (v := 0) hx hb dX0_hasParts_9 (by decide) ?_
    exact tz_rz Z hr hlk Y rfl dX0_hasParts_10 (by rw [xHas, if_pos c_2] <;> rfl) rfl
  · refine lv_iconst (v := 1) hx hb dX0_hasParts_5 (by decide) ?_
    refine lv_goto (tgt := 10) hx hb dX0_hasParts_6 (by decide) ?_
    exact tz_rz Z hr hlk Y rfl dX0_hasParts_10 (by rw [xHas, if_neg c_2] <;> rfl) rfl
set_option maxHeartbeats 4000000 in
set_option maxRecDepth 100000 in
theorem kX0_make (l : Launch) (D : va_G) (a : Nat → Nat) (c : Nat → ClassId) (u : tzS) (kd x y : Int32) {n t : Nat} (hW : tzWF u n t) : tzMi l yX0_make cX0_make 4 .int (tzR 0) D (wX0 a c) (tX0 c) [.ref (a 16), .int kd, .int x, .int y] u ((xMake u kd x y).1) ((xMake u kd x y).2) := by
  refine tzMi.mk RX0 (by decide) rfl (Nat.le_of_ble_eq_true rfl) ?_
  intro p e s m below meth cd A ls Z hr hlk hA Y hl
  have hx := Z.1.1
  have hb := Z.1.2.1
  have hl : lv_has ls 4 [(0, .ref (a 16)), (1, .int kd), (2, .int x), (3, .int y)] := hl
  refine lv_aload_n hx hb dX0_make_0 rfl (lv_at hl 0 rfl) ?_
  refine x0_geti 12 (by decide) Z Y q40 dX0_make_1 ?_
  refine lv_bipush (v := 24) hx hb dX0_make_4 (by decide) ?_
  refine lv_icmp_ne (tgt := 12) hx hb dX0_make_6 (by decide) (fun c_6 => ?_) (fun c_6 => ?_)
  · have h9 := tz_lt24 hW c_6
    refine lv_aload_n hx hb dX0_make_12 rfl (lv_at hl 0 rfl) ?_
    refine x0_getr 0 (by decide) Z Y q28 dX0_make_13 ?_
    refine lv_aload_n hx hb dX0_make_16 rfl (lv_at hl 0 rfl) ?_
    refine x0_geti 12 (by decide) Z Y q40 dX0_make_17 ?_
    refine lv_iload_n hx hb dX0_make_20 rfl (lv_at hl 1 rfl) ?_
    refine x0_ast 0 (by decide) (i := tzix (u 12 0)) Z Y h9 dX0_make_21 (fun H locs Y => ?_)
    refine lv_aload_n hx hb dX0_make_22 rfl (lv_at hl 0 rfl) ?_
    refine x0_getr 1 (by decide) Z Y q29 dX0_make_23 ?_
    refine lv_aload_n hx hb dX0_make_26 rfl (lv_at hl 0 rfl) ?_
    refine x0_geti 12 (by decide) Z Y q40 dX0_make_27 ?_
    refine lv_iload_n hx hb dX0_make_30 rfl (lv_at hl 2 rfl) ?_
    refine x0_ast 1 (by decide) (i := tzix (u 12 0)) Z Y h9 dX0_make_31 (fun H locs Y => ?_)
    refine lv_aload_n hx hb dX0_make_32 rfl (lv_at hl 0 rfl) ?_
    refine x0_getr 2 (by decide) Z Y q30 dX0_make_33 ?_
    refine lv_aload_n hx hb dX0_make_36 rfl (lv_at hl 0 rfl) ?_
    refine x0_geti 12 (by decide) Z Y q40 dX0_make_37 ?_
    refine lv_iload_n hx hb dX0_make_40 rfl (lv_at hl 3 rfl) ?_
    refine x0_ast 2 (by decide) (i := tzix (u 12 0)) Z Y h9 dX0_make_41 (fun H locs Y => ?_)
    refine lv_aload_n hx hb dX0_make_42 rfl (lv_at hl 0 rfl) ?_
    refine lv_dup hx hb dX0_make_43 rfl ?_
    refine x0_geti 12 (by decide) Z Y q40 dX0_make_44 ?_
    refine lv_iconst (v := 1) hx hb dX0_make_47 (by decide) ?_
    refine lv_iadd hx hb dX0_make_48 ?_
    refine x0_puti 12 (by decide) Z Y q40 dX0_make_49 (fun H locs Y => ?_)
    refine lv_aload_n hx hb dX0_make_52 rfl (lv_at hl 0 rfl) ?_
    refine lv_iconst (v := 0) hx hb dX0_make_53 (by decide) ?_
    refine x0_putz Z Y q43 rfl rfl dX0_make_54 (fun H locs Y => ?_)
    refine lv_aload_n hx hb dX0_make_57 rfl (lv_at hl 0 rfl) ?_
    refine x0_geti 12 (by decide) Z Y q40 dX0_make_58 ?_
    refine lv_iconst (v := 1) hx hb dX0_make_61 (by decide) ?_
    refine lv_isub hx hb dX0_make_62 ?_
    exact tz_ri Z hr hlk Y dX0_make_63 (by rw [xMake, if_neg c_6] <;> rfl) (by rw [xMake, if_neg c_6] <;> rfl)
  · refine lv_bipush (v := (-2)) hx hb dX0_make_9 (by decide) ?_
    exact tz_ri Z hr hlk Y dX0_make_11 (by rw [xMake, if_pos c_6] <;> rfl) (by rw [xMake, if_pos c_6] <;> rfl)
set_option maxHeartbeats 4000000 in
set_option maxRecDepth 100000 in
theorem kX0_parameter (l : Launch) (D : va_G) (a : Nat → Nat) (c : Nat → ClassId) (u : tzS) (j : Int32) {n t : Nat} (hW : tzWF u n t) : tzMi l yX0_parameter cX0_parameter 2 .int (tzR 1) D (wX0 a c) (tX0 c) [.ref (a 16), .int j] u ((xParam u j).1) ((xParam u j).2) := by
  refine tzMi.mk RX0 (by decide) rfl (Nat.le_of_ble_eq_true rfl) ?_
  intro p e s m below meth cd A ls Z hr hlk hA Y hl
  have hx := Z.1.1
  have hb := Z.1.2.1
  have hl : lv_has ls 2 [(0, .ref (a 16)), (1, .int j)] := hl
  refine lv_iload_n hx hb dX0_parameter_0 rfl (lv_at hl 1 rfl) ?_
  refine tz_cSi Z Y hA ⟨Nat.zero_le _, Nat.zero_le _⟩ (kX0_isParameter l D a c u j) (va_cwS 1 Z.1.2.2.2.2 (lw_S q83 q84 q18 q85) rfl rfl rfl (by decide +kernel) ⟨by decide, by decide⟩) rfl hl.1 rfl (Nat.le_of_ble_eq_true rfl) dX0_parameter_1 (fun H locs Y => ?_)
  refine lv_if_ne (tgt := 9) hx hb dX0_parameter_4 (by decide) (fun c_4 => ?_) (fun c_4 => ?_)
  · refine lv_aload_n hx hb dX0_parameter_9 rfl (lv_at hl 0 rfl) ?_
    refine lv_iconst (v := 0) hx hb dX0_parameter_10 (by decide) ?_
    refine lv_iload_n hx hb dX0_parameter_11 rfl (lv_at hl 1 rfl) ?_
    refine lv_iconst (v := 0) hx hb dX0_parameter_12 (by decide) ?_
    refine tz_cVi (ci := 0) (C := RX0) Z Y hA ⟨Nat.zero_le _, Nat.zero_le _⟩ (kX0_make l D a c u 0 j 0 hW) rfl rfl (cwV 3 Z.1.2.2.2.2 (lw_V q86 q88 qs0 q18 q89) rfl rfl rfl (by decide +kernel) ⟨by decide, by decide⟩) rfl hl.1 rfl (Nat.le_of_ble_eq_true rfl) dX0_parameter_13 (fun H locs Y => ?_)
    exact tz_ri Z hr hlk Y dX0_parameter_16 (by rw [xParam, if_neg c_4] <;> rfl) (by rw [xParam, if_neg c_4] <;> rfl)
  · refine lv_iconst (v := (-1)) hx hb dX0_parameter_7 (by decide) ?_
    exact tz_ri Z hr hlk Y dX0_parameter_8 (by rw [xParam, if_pos c_4] <;> rfl) (by rw [xParam, if_pos c_4] <;> rfl)
set_option maxHeartbeats 4000000 in
set_option maxRecDepth 100000 in
theorem kX0_constant (l : Launch) (D : va_G) (a : Nat → Nat) (c : Nat → ClassId) (u : tzS) (x : Int32) {n t : Nat} (hW : tzWF u n t) : tzMi l yX0_constant cX0_constant 2 .int (tzR 1) D (wX0 a c) (tX0 c) [.ref (a 16), .int x] u ((xConst u x).1) ((xConst u x).2) := by
  refine tzMi.mk RX0 (by decide) rfl (Nat.le_of_ble_eq_true rfl) ?_
  intro p e s m below meth cd A ls Z hr hlk hA Y hl
  have hx := Z.1.1
  have hb := Z.1.2.1
  have hl : lv_has ls 2 [(0, .ref (a 16)), (1, .int x)] := hl
  refine lv_aload_n hx hb dX0_constant_0 rfl (lv_at hl 0 rfl) ?_
  refine lv_iconst (v := 1) hx hb dX0_constant_1 (by decide) ?_
  refine lv_iload_n hx hb dX0_constant_2 rfl (lv_at hl 1 rfl) ?_
  refine lv_iconst (v := 0) hx hb dX0_constant_3 (by decide) ?_
  refine tz_cVi (ci := 0) (C := RX0) Z Y hA ⟨Nat.zero_le _, Nat.zero_le _⟩ (kX0_make l D a c u 1 x 0 hW) rfl rfl (cwV 3 Z.1.2.2.2.2 (lw_V q86 q88 qs0 q18 q89) rfl rfl rfl (by decide +kernel) ⟨by decide, by decide⟩) rfl hl.1 rfl (Nat.le_of_ble_eq_true rfl) dX0_constant_4 (fun H locs Y => ?_)
  exact tz_ri Z hr hlk Y dX0_constant_7 (by rw [xConst] <;> rfl) (by rw [xConst] <;> rfl)
set_option maxHeartbeats 4000000 in
set_option maxRecDepth 100000 in
theorem kX0_combine (l : Launch) (D : va_G) (a : Nat → Nat) (c : Nat → ClassId) (u : tzS) (kd x y : Int32) {n t : Nat} (hW : tzWF u n t) : tzMi l yX0_combine cX0_combine 4 .int (tzR 1) D (wX0 a c) (tX0 c) [.ref (a 16), .int kd, .int x, .int y] u ((xComb u kd x y).1) ((xComb u kd x y).2) := by
  refine tzMi.mk RX0 (by decide) rfl (Nat.le_of_ble_eq_true rfl) ?_
  intro p e s m below meth cd A ls Z hr hlk hA Y hl
  have hx := Z.1.1
  have hb := Z.1.2.1
  have hl : lv_has ls 4 [(0, .ref (a 16)), (1, .int kd), (2, .int x), (3, .int y)] := hl
  refine lv_iload_n hx hb dX0_combine_0 rfl (lv_at hl 1 rfl) ?_
  refine lv_if_lt (tgt := 9) hx hb dX0_combine_1 (by decide) (fun c_1 => ?_) (fun c_1 => ?_)
  · refine lv_iconst (v := (-1)) hx hb dX0_combine_9 (by decide) ?_
    exact tz_ri Z hr hlk Y dX0_combine_10 (by rw [xComb, if_pos c_1] <;> rfl) (by rw [xComb, if_pos c_1] <;> rfl)
  · refine lv_iload_n hx hb dX0_combine_4 rfl (lv_at hl 1 rfl) ?_
    refine lv_iconst (v := 2) hx hb dX0_combine_5 (by decide) ?_
    refine lv_icmp_le (tgt := 11) hx hb dX0_combine_6 (by decide) (fun c_6 => ?_) (fun c_6 => ?_)
    · refine lv_aload_n hx hb dX0_combine_11 rfl (lv_at hl 0 rfl) ?_
      refine x0_geti 12 (by decide) Z Y q40 dX0_combine_12 ?_
      refine lv_bipush (v := 24) hx hb dX0_combine_15 (by decide) ?_
      refine lv_icmp_ne (tgt := 23) hx hb dX0_combine_17 (by decide) (fun c_17 => ?_) (fun c_17 => ?_)
      · refine lv_aload_n hx hb dX0_combine_23 rfl (lv_at hl 0 rfl) ?_
        refine lv_iload_n hx hb dX0_combine_24 rfl (lv_at hl 2 rfl) ?_
        refine tz_cVi (ci := 0) (C := RX0) Z Y hA ⟨Nat.zero_le _, Nat.zero_le _⟩ (kX0_isNode l D a c u x) rfl rfl (cwV 1 Z.1.2.2.2.2 (lw_V q98 q100 qs1 q18 q101) rfl rfl rfl (by decide +kernel) ⟨by decide, by decide⟩) rfl hl.1 rfl (Nat.le_of_ble_eq_true rfl) dX0_combine_25 (fun H locs Y => ?_)
        refine lv_if_eq (tgt := 39) hx hb dX0_combine_28 (by decide) (fun c_28 => ?_) (fun c_28 => ?_)
        · refine lv_bipush (v := (-3)) hx hb dX0_combine_39 (by decide) ?_
          exact tz_ri Z hr hlk Y dX0_combine_41 (by rw [xComb, if_neg c_1, if_pos c_6, if_neg c_17, if_pos c_28] <;> rfl) (by rw [xComb, if_neg c_1, if_pos c_6, if_neg c_17, if_pos c_28] <;> rfl)
        · refine lv_aload_n hx hb dX0_combine_31 rfl (lv_at hl 0 rfl) ?_
          refine lv_iload_n hx hb dX0_combine_32 rfl (lv_at hl 3 rfl) ?_
          refine tz_cVi (ci := 0) (C := RX0) Z Y hA ⟨Nat.zero_le _, Nat.zero_le _⟩ (kX0_isNode l D a c u y) rfl rfl (cwV 1 Z.1.2.2.2.2 (lw_V q98 q100 qs1 q18 q101) rfl rfl rfl (by decide +kernel) ⟨by decide, by decide⟩) rfl hl.1 rfl (Nat.le_of_ble_eq_true rfl) dX0_combine_33 (fun H locs Y => ?_)
          refine lv_if_ne (tgt := 42) hx hb dX0_combine_36 (by decide) (fun c_36 => ?_) (fun c_36 => ?_)
          · refine lv_aload_n hx hb dX0_combine_42 rfl (lv_at hl 0 rfl) ?_
            refine lv_iconst (v := 2) hx hb dX0_combine_43 (by decide) ?_
            refine lv_iload_n hx hb dX0_combine_44 rfl (lv_at hl 1 rfl) ?_
            refine lv_iadd hx hb dX0_combine_45 ?_
            refine lv_iload_n hx hb dX0_combine_46 rfl (lv_at hl 2 rfl) ?_
            refine lv_iload_n hx hb dX0_combine_47 rfl (lv_at hl 3 rfl) ?_
            refine tz_cVi (ci := 0) (C := RX0) Z Y hA ⟨Nat.zero_le _, Nat.zero_le _⟩ (kX0_make l D a c u (2 + kd) x y hW) rfl rfl (cwV 3 Z.1.2.2.2.2 (lw_V q86 q88 qs0 q18 q89) rfl rfl rfl (by decide +kernel) ⟨by decide, by decide⟩) rfl hl.1 rfl (Nat.le_of_ble_eq_true rfl) dX0_combine_48 (fun H locs Y => ?_)
            exact tz_ri Z hr hlk Y dX0_combine_51 (by rw [xComb, if_neg c_1, if_pos c_6, if_neg c_17, if_neg c_28, if_neg c_36] <;> rfl) (by rw [xComb, if_neg c_1, if_pos c_6, if_neg c_17, if_neg c_28, if_neg c_36] <;> rfl)
          · refine lv_bipush (v := (-3)) hx hb dX0_combine_39 (by decide) ?_
            exact tz_ri Z hr hlk Y dX0_combine_41 (by rw [xComb, if_neg c_1, if_pos c_6, if_neg c_17, if_neg c_28, if_pos c_36] <;> rfl) (by rw [xComb, if_neg c_1, if_pos c_6, if_neg c_17, if_neg c_28, if_pos c_36] <;> rfl)
      · refine lv_bipush (v := (-2)) hx hb dX0_combine_20 (by decide) ?_
        exact tz_ri Z hr hlk Y dX0_combine_22 (by rw [xComb, if_neg c_1, if_pos c_6, if_pos c_17] <;> rfl) (by rw [xComb, if_neg c_1, if_pos c_6, if_pos c_17] <;> rfl)
    · refine lv_iconst (v := (-1)) hx hb dX0_combine_9 (by decide) ?_
      exact tz_ri Z hr hlk Y dX0_combine_10 (by rw [xComb, if_neg c_1, if_neg c_6] <;> rfl) (by rw [xComb, if_neg c_1, if_neg c_6] <;> rfl)
set_option maxHeartbeats 4000000 in
set_option maxRecDepth 100000 in
theorem kX0_square (l : Launch) (D : va_G) (a : Nat → Nat) (c : Nat → ClassId) (u : tzS) (x : Int32) {n t : Nat} (hW : tzWF u n t) : tzMi l yX0_square cX0_square 2 .int (tzR 1) D (wX0 a c) (tX0 c) [.ref (a 16), .int x] u ((xSq u x).1) ((xSq u x).2) := by
  refine tzMi.mk RX0 (by decide) rfl (Nat.le_of_ble_eq_true rfl) ?_
  intro p e s m below meth cd A ls Z hr hlk hA Y hl
  have hx := Z.1.1
  have hb := Z.1.2.1
  have hl : lv_has ls 2 [(0, .ref (a 16)), (1, .int x)] := hl
  refine lv_aload_n hx hb dX0_square_0 rfl (lv_at hl 0 rfl) ?_
  refine x0_geti 12 (by decide) Z Y q40 dX0_square_1 ?_
  refine lv_bipush (v := 24) hx hb dX0_square_4 (by decide) ?_
  refine lv_icmp_ne (tgt := 12) hx hb dX0_square_6 (by decide) (fun c_6 => ?_) (fun c_6 => ?_)
  · refine lv_aload_n hx hb dX0_square_12 rfl (lv_at hl 0 rfl) ?_
    refine lv_iload_n hx hb dX0_square_13 rfl (lv_at hl 1 rfl) ?_
    refine tz_cVi (ci := 0) (C := RX0) Z Y hA ⟨Nat.zero_le _, Nat.zero_le _⟩ (kX0_isNode l D a c u x) rfl rfl (cwV 1 Z.1.2.2.2.2 (lw_V q98 q100 qs1 q18 q101) rfl rfl rfl (by decide +kernel) ⟨by decide, by decide⟩) rfl hl.1 rfl (Nat.le_of_ble_eq_true rfl) dX0_square_14 (fun H locs Y => ?_)
    refine lv_if_ne (tgt := 23) hx hb dX0_square_17 (by decide) (fun c_17 => ?_) (fun c_17 => ?_)
    · refine lv_aload_n hx hb dX0_square_23 rfl (lv_at hl 0 rfl) ?_
      refine lv_iconst (v := 5) hx hb dX0_square_24 (by decide) ?_
      refine lv_iload_n hx hb dX0_square_25 rfl (lv_at hl 1 rfl) ?_
      refine lv_iload_n hx hb dX0_square_26 rfl (lv_at hl 1 rfl) ?_
      refine tz_cVi (ci := 0) (C := RX0) Z Y hA ⟨Nat.zero_le _, Nat.zero_le _⟩ (kX0_make l D a c u 5 x x hW) rfl rfl (cwV 3 Z.1.2.2.2.2 (lw_V q86 q88 qs0 q18 q89) rfl rfl rfl (by decide +kernel) ⟨by decide, by decide⟩) rfl hl.1 rfl (Nat.le_of_ble_eq_true rfl) dX0_square_27 (fun H locs Y => ?_)
      exact tz_ri Z hr hlk Y dX0_square_30 (by rw [xSq, if_neg c_6, if_neg c_17] <;> rfl) (by rw [xSq, if_neg c_6, if_neg c_17] <;> rfl)
    · refine lv_bipush (v := (-3)) hx hb dX0_square_20 (by decide) ?_
      exact tz_ri Z hr hlk Y dX0_square_22 (by rw [xSq, if_neg c_6, if_pos c_17] <;> rfl) (by rw [xSq, if_neg c_6, if_pos c_17] <;> rfl)
  · refine lv_bipush (v := (-2)) hx hb dX0_square_9 (by decide) ?_
    exact tz_ri Z hr hlk Y dX0_square_11 (by rw [xSq, if_pos c_6] <;> rfl) (by rw [xSq, if_pos c_6] <;> rfl)
set_option maxHeartbeats 4000000 in
set_option maxRecDepth 100000 in
theorem kX0_term (l : Launch) (D : va_G) (a : Nat → Nat) (c : Nat → ClassId) (u : tzS) (k x : Int32) {n t : Nat} (hW : tzWF u n t) : tzMi l yX0_term cX0_term 3 .int (tzR 1) D (wX0 a c) (tX0 c) [.ref (a 16), .int k, .int x] u ((xTerm u k x).1) ((xTerm u k x).2) := by
  refine tzMi.mk RX0 (by decide) rfl (Nat.le_of_ble_eq_true rfl) ?_
  intro p e s m below meth cd A ls Z hr hlk hA Y hl
  have hx := Z.1.1
  have hb := Z.1.2.1
  have hl : lv_has ls 3 [(0, .ref (a 16)), (1, .int k), (2, .int x)] := hl
  refine lv_aload_n hx hb dX0_term_0 rfl (lv_at hl 0 rfl) ?_
  refine lv_iload_n hx hb dX0_term_1 rfl (lv_at hl 1 rfl) ?_
  refine tz_cVi (ci := 0) (C := RX0) Z Y hA ⟨Nat.zero_le _, Nat.zero_le _⟩ (kX0_isNode l D a c u k) rfl rfl (cwV 1 Z.1.2.2.2.2 (lw_V q98 q100 qs1 q18 q101) rfl rfl rfl (by decide +kernel) ⟨by decide, by decide⟩) rfl hl.1 rfl (Nat.le_of_ble_eq_true rfl) dX0_term_2 (fun H locs Y => ?_)
  refine lv_if_ne (tgt := 10) hx hb dX0_term_5 (by decide) (fun c_5 => ?_) (fun c_5 => ?_)
  · refine lv_iload_n hx hb dX0_term_10 rfl (lv_at hl 2 rfl) ?_
    refine lv_bipush (v := (-20)) hx hb dX0_term_11 (by decide) ?_
    refine lv_icmp_lt (tgt := 22) hx hb dX0_term_13 (by decide) (fun c_13 => ?_) (fun c_13 => ?_)
    · refine lv_bipush (v := (-2)) hx hb dX0_term_22 (by decide) ?_
      exact tz_ri Z hr hlk Y dX0_term_24 (by rw [xTerm, if_neg c_5, if_pos c_13] <;> rfl) (by rw [xTerm, if_neg c_5, if_pos c_13] <;> rfl)
    · refine lv_iload_n hx hb dX0_term_16 rfl (lv_at hl 2 rfl) ?_
      refine lv_bipush (v := 20) hx hb dX0_term_17 (by decide) ?_
      refine lv_icmp_le (tgt := 25) hx hb dX0_term_19 (by decide) (fun c_19 => ?_) (fun c_19 => ?_)
      · refine lv_aload_n hx hb dX0_term_25 rfl (lv_at hl 0 rfl) ?_
        refine x0_geti 13 (by decide) Z Y q41 dX0_term_26 ?_
        refine lv_bipush (v := 8) hx hb dX0_term_29 (by decide) ?_
        refine lv_icmp_ne (tgt := 37) hx hb dX0_term_31 (by decide) (fun c_31 => ?_) (fun c_31 => ?_)
        · have h8 := tz_lt8 hW c_31
          refine lv_aload_n hx hb dX0_term_37 rfl (lv_at hl 0 rfl) ?_
          refine x0_getr 3 (by decide) Z Y q31 dX0_term_38 ?_
          refine lv_aload_n hx hb dX0_term_41 rfl (lv_at hl 0 rfl) ?_
          refine x0_geti 13 (by decide) Z Y q41 dX0_term_42 ?_
          refine lv_iload_n hx hb dX0_term_45 rfl (lv_at hl 1 rfl) ?_
          refine x0_ast 3 (by decide) (i := tzix (u 13 0)) Z Y h8 dX0_term_46 (fun H locs Y => ?_)
          refine lv_aload_n hx hb dX0_term_47 rfl (lv_at hl 0 rfl) ?_
          refine x0_getr 4 (by decide) Z Y q32 dX0_term_48 ?_
          refine lv_aload_n hx hb dX0_term_51 rfl (lv_at hl 0 rfl) ?_
          refine x0_geti 13 (by decide) Z Y q41 dX0_term_52 ?_
          refine lv_iload_n hx hb dX0_term_55 rfl (lv_at hl 2 rfl) ?_
          refine x0_ast 4 (by decide) (i := tzix (u 13 0)) Z Y h8 dX0_term_56 (fun H locs Y => ?_)
          refine lv_aload_n hx hb dX0_term_57 rfl (lv_at hl 0 rfl) ?_
          refine lv_dup hx hb dX0_term_58 rfl ?_
          refine x0_geti 13 (by decide) Z Y q41 dX0_term_59 ?_
          refine lv_iconst (v := 1) hx hb dX0_term_62 (by decide) ?_
          refine lv_iadd hx hb dX0_term_63 ?_
          refine x0_puti 13 (by decide) Z Y q41 dX0_term_64 (fun H locs Y => ?_)
          refine lv_aload_n hx hb dX0_term_67 rfl (lv_at hl 0 rfl) ?_
          refine lv_iconst (v := 0) hx hb dX0_term_68 (by decide) ?_
          refine x0_putz Z Y q43 rfl rfl dX0_term_69 (fun H locs Y => ?_)
          refine lv_aload_n hx hb dX0_term_72 rfl (lv_at hl 0 rfl) ?_
          refine x0_geti 13 (by decide) Z Y q41 dX0_term_73 ?_
          exact tz_ri Z hr hlk Y dX0_term_76 (by rw [xTerm, if_neg c_5, if_neg c_13, if_pos c_19, if_neg c_31] <;> rfl) (by rw [xTerm, if_neg c_5, if_neg c_13, if_pos c_19, if_neg c_31] <;> rfl)
        · refine lv_bipush (v := (-3)) hx hb dX0_term_34 (by decide) ?_
          exact tz_ri Z hr hlk Y dX0_term_36 (by rw [xTerm, if_neg c_5, if_neg c_13, if_pos c_19, if_pos c_31] <;> rfl) (by rw [xTerm, if_neg c_5, if_neg c_13, if_pos c_19, if_pos c_31] <;> rfl)
      · refine lv_bipush (v := (-2)) hx hb dX0_term_22 (by decide) ?_
        exact tz_ri Z hr hlk Y dX0_term_24 (by rw [xTerm, if_neg c_5, if_neg c_13, if_neg c_19] <;> rfl) (by rw [xTerm, if_neg c_5, if_neg c_13, if_neg c_19] <;> rfl)
  · refine lv_iconst (v := (-1)) hx hb dX0_term_8 (by decide) ?_
    exact tz_ri Z hr hlk Y dX0_term_9 (by rw [xTerm, if_pos c_5] <;> rfl) (by rw [xTerm, if_pos c_5] <;> rfl)
set_option maxHeartbeats 4000000 in
set_option maxRecDepth 100000 in
theorem kX0_clear (l : Launch) (D : va_G) (a : Nat → Nat) (c : Nat → ClassId) (u : tzS)  : tzMi l yX0_clear cX0_clear 2 .int (tzR 0) D (wX0 a c) (tX0 c) [.ref (a 16)] u ((xClear u).1) ((xClear u).2) := by
  refine tzMi.mk RX0 (by decide) rfl (Nat.le_of_ble_eq_true rfl) ?_
  intro p e s m below meth cd A ls Z hr hlk hA Y hl
  have hx := Z.1.1
  have hb := Z.1.2.1
  have hl : lv_has ls 2 [(0, .ref (a 16))] := hl
  refine lv_aload_n hx hb dX0_clear_0 rfl (lv_at hl 0 rfl) ?_
  refine x0_geti 12 (by decide) Z Y q40 dX0_clear_1 ?_
  refine lv_istore_n (lv' := [(1, .int (u 12 0)), (0, .ref (a 16))]) hx hb dX0_clear_4 rfl hl (by decide) rfl (fun ls hl => ?_)
  refine lv_aload_n hx hb dX0_clear_5 rfl (lv_at hl 1 rfl) ?_
  refine lv_iconst (v := 0) hx hb dX0_clear_6 (by decide) ?_
  refine x0_puti 12 (by decide) Z Y q40 dX0_clear_7 (fun H locs Y => ?_)
  refine lv_aload_n hx hb dX0_clear_10 rfl (lv_at hl 1 rfl) ?_
  refine lv_iconst (v := 0) hx hb dX0_clear_11 (by decide) ?_
  refine x0_puti 13 (by decide) Z Y q41 dX0_clear_12 (fun H locs Y => ?_)
  refine lv_aload_n hx hb dX0_clear_15 rfl (lv_at hl 1 rfl) ?_
  refine lv_iconst (v := 0) hx hb dX0_clear_16 (by decide) ?_
  refine x0_putz Z Y q43 rfl rfl dX0_clear_17 (fun H locs Y => ?_)
  refine lv_iload_n hx hb dX0_clear_20 rfl (lv_at hl 0 rfl) ?_
  exact tz_ri Z hr hlk Y dX0_clear_21 rfl rfl
set_option maxHeartbeats 4000000 in
set_option maxRecDepth 100000 in
theorem kX0_nodes (l : Launch) (D : va_G) (a : Nat → Nat) (c : Nat → ClassId) (u : tzS)  : tzMi l yX0_nodes cX0_nodes 1 .int (tzR 0) D (wX0 a c) (tX0 c) [.ref (a 16)] u (u 12 0) u := by
  refine tzMi.mk RX0 (by decide) rfl (Nat.le_of_ble_eq_true rfl) ?_
  intro p e s m below meth cd A ls Z hr hlk hA Y hl
  have hx := Z.1.1
  have hb := Z.1.2.1
  have hl : lv_has ls 1 [(0, .ref (a 16))] := hl
  refine lv_aload_n hx hb dX0_nodes_0 rfl (lv_at hl 0 rfl) ?_
  refine x0_geti 12 (by decide) Z Y q40 dX0_nodes_1 ?_
  exact tz_ri Z hr hlk Y dX0_nodes_4 rfl rfl
set_option maxHeartbeats 4000000 in
set_option maxRecDepth 100000 in
theorem kX0_terms (l : Launch) (D : va_G) (a : Nat → Nat) (c : Nat → ClassId) (u : tzS)  : tzMi l yX0_terms cX0_terms 1 .int (tzR 0) D (wX0 a c) (tX0 c) [.ref (a 16)] u (u 13 0) u := by
  refine tzMi.mk RX0 (by decide) rfl (Nat.le_of_ble_eq_true rfl) ?_
  intro p e s m below meth cd A ls Z hr hlk hA Y hl
  have hx := Z.1.1
  have hb := Z.1.2.1
  have hl : lv_has ls 1 [(0, .ref (a 16))] := hl
  refine lv_aload_n hx hb dX0_terms_0 rfl (lv_at hl 0 rfl) ?_
  refine x0_geti 13 (by decide) Z Y q41 dX0_terms_1 ?_
  exact tz_ri Z hr hlk Y dX0_terms_4 rfl rfl
set_option maxHeartbeats 4000000 in
set_option maxRecDepth 100000 in
theorem kX0_place (l : Launch) (D : va_G) (a : Nat → Nat) (c : Nat → ClassId) (u : tzS) (ch j x : Int32) : tzMi l yX0_place cX0_place 4 .int (tzR 1) D (wX0 a c) (tX0 c) [.ref (a 16), .int ch, .int j, .int x] u ((xPlace u ch j x).1) ((xPlace u ch j x).2) := by
  refine tzMi.mk RX0 (by decide) rfl (Nat.le_of_ble_eq_true rfl) ?_
  intro p e s m below meth cd A ls Z hr hlk hA Y hl
  have hx := Z.1.1
  have hb := Z.1.2.1
  have hl : lv_has ls 4 [(0, .ref (a 16)), (1, .int ch), (2, .int j), (3, .int x)] := hl
  refine lv_iload_n hx hb dX0_place_0 rfl (lv_at hl 1 rfl) ?_
  refine tz_cSi Z Y hA ⟨Nat.zero_le _, Nat.zero_le _⟩ (kX0_isChain l D a c u ch) (va_cwS 1 Z.1.2.2.2.2 (lw_S q126 q127 q18 q128) rfl rfl rfl (by decide +kernel) ⟨by decide, by decide⟩) rfl hl.1 rfl (Nat.le_of_ble_eq_true rfl) dX0_place_1 (fun H locs Y => ?_)
  refine lv_if_ne (tgt := 9) hx hb dX0_place_4 (by decide) (fun c_4 => ?_) (fun c_4 => ?_)
  · have h1 := tz_isC c_4
    refine lv_iload_n hx hb dX0_place_9 rfl (lv_at hl 2 rfl) ?_
    refine tz_cSi Z Y hA ⟨Nat.zero_le _, Nat.zero_le _⟩ (kX0_isParameter l D a c u j) (va_cwS 1 Z.1.2.2.2.2 (lw_S q83 q84 q18 q85) rfl rfl rfl (by decide +kernel) ⟨by decide, by decide⟩) rfl hl.1 rfl (Nat.le_of_ble_eq_true rfl) dX0_place_10 (fun H locs Y => ?_)
    refine lv_if_ne (tgt := 19) hx hb dX0_place_13 (by decide) (fun c_13 => ?_) (fun c_13 => ?_)
    · have h2 := tz_isP c_13
      refine lv_aload_n hx hb dX0_place_19 rfl (lv_at hl 0 rfl) ?_
      refine x0_getr 5 (by decide) Z Y q33 dX0_place_20 ?_
      refine lv_iconst (v := 4) hx hb dX0_place_23 (by decide) ?_
      refine lv_iload_n hx hb dX0_place_24 rfl (lv_at hl 1 rfl) ?_
      refine lv_imul hx hb dX0_place_25 ?_
      refine lv_iload_n hx hb dX0_place_26 rfl (lv_at hl 2 rfl) ?_
      refine lv_iadd hx hb dX0_place_27 ?_
      refine lv_iload_n hx hb dX0_place_28 rfl (lv_at hl 3 rfl) ?_
      refine x0_ast 5 (by decide) (i := 4 * tzix ch + tzix j) Z Y (tz_4 h1 h2) dX0_place_29 (fun H locs Y => ?_)
      refine lv_iconst (v := 0) hx hb dX0_place_30 (by decide) ?_
      exact tz_ri Z hr hlk Y dX0_place_31 (by rw [xPlace, if_neg c_4, if_neg c_13] <;> rfl) (by rw [xPlace, if_neg c_4, if_neg c_13] <;> rfl)
    · refine lv_bipush (v := (-2)) hx hb dX0_place_16 (by decide) ?_
      exact tz_ri Z hr hlk Y dX0_place_18 (by rw [xPlace, if_neg c_4, if_pos c_13] <;> rfl) (by rw [xPlace, if_neg c_4, if_pos c_13] <;> rfl)
  · refine lv_iconst (v := (-1)) hx hb dX0_place_7 (by decide) ?_
    exact tz_ri Z hr hlk Y dX0_place_8 (by rw [xPlace, if_pos c_4] <;> rfl) (by rw [xPlace, if_pos c_4] <;> rfl)
set_option maxHeartbeats 4000000 in
set_option maxRecDepth 100000 in
theorem kX0_push (l : Launch) (D : va_G) (a : Nat → Nat) (c : Nat → ClassId) (u : tzS) (ch j x : Int32) : tzMi l yX0_push cX0_push 4 .int (tzR 1) D (wX0 a c) (tX0 c) [.ref (a 16), .int ch, .int j, .int x] u ((xPush u ch j x).1) ((xPush u ch j x).2) := by
  refine tzMi.mk RX0 (by decide) rfl (Nat.le_of_ble_eq_true rfl) ?_
  intro p e s m below meth cd A ls Z hr hlk hA Y hl
  have hx := Z.1.1
  have hb := Z.1.2.1
  have hl : lv_has ls 4 [(0, .ref (a 16)), (1, .int ch), (2, .int j), (3, .int x)] := hl
  refine lv_iload_n hx hb dX0_push_0 rfl (lv_at hl 1 rfl) ?_
  refine tz_cSi Z Y hA ⟨Nat.zero_le _, Nat.zero_le _⟩ (kX0_isChain l D a c u ch) (va_cwS 1 Z.1.2.2.2.2 (lw_S q126 q127 q18 q128) rfl rfl rfl (by decide +kernel) ⟨by decide, by decide⟩) rfl hl.1 rfl (Nat.le_of_ble_eq_true rfl) dX0_push_1 (fun H locs Y => ?_)
  refine lv_if_ne (tgt := 9) hx hb dX0_push_4 (by decide) (fun c_4 => ?_) (fun c_4 => ?_)
  · have h1 := tz_isC c_4
    refine lv_iload_n hx hb dX0_push_9 rfl (lv_at hl 2 rfl) ?_
    refine tz_cSi Z Y hA ⟨Nat.zero_le _, Nat.zero_le _⟩ (kX0_isParameter l D a c u j) (va_cwS 1 Z.1.2.2.2.2 (lw_S q83 q84 q18 q85) rfl rfl rfl (by decide +kernel) ⟨by decide, by decide⟩) rfl hl.1 rfl (Nat.le_of_ble_eq_true rfl) dX0_push_10 (fun H locs Y => ?_)
    refine lv_if_ne (tgt := 19) hx hb dX0_push_13 (by decide) (fun c_13 => ?_) (fun c_13 => ?_)
    · have h2 := tz_isP c_13
      refine lv_aload_n hx hb dX0_push_19 rfl (lv_at hl 0 rfl) ?_
      refine x0_getr 6 (by decide) Z Y q34 dX0_push_20 ?_
      refine lv_iconst (v := 4) hx hb dX0_push_23 (by decide) ?_
      refine lv_iload_n hx hb dX0_push_24 rfl (lv_at hl 1 rfl) ?_
      refine lv_imul hx hb dX0_push_25 ?_
      refine lv_iload_n hx hb dX0_push_26 rfl (lv_at hl 2 rfl) ?_
      refine lv_iadd hx hb dX0_push_27 ?_
      refine lv_iload_n hx hb dX0_push_28 rfl (lv_at hl 3 rfl) ?_
      refine x0_ast 6 (by decide) (i := 4 * tzix ch + tzix j) Z Y (tz_4 h1 h2) dX0_push_29 (fun H locs Y => ?_)
      refine lv_iconst (v := 0) hx hb dX0_push_30 (by decide) ?_
      exact tz_ri Z hr hlk Y dX0_push_31 (by rw [xPush, if_neg c_4, if_neg c_13] <;> rfl) (by rw [xPush, if_neg c_4, if_neg c_13] <;> rfl)
    · refine lv_bipush (v := (-2)) hx hb dX0_push_16 (by decide) ?_
      exact tz_ri Z hr hlk Y dX0_push_18 (by rw [xPush, if_neg c_4, if_pos c_13] <;> rfl) (by rw [xPush, if_neg c_4, if_pos c_13] <;> rfl)
  · refine lv_iconst (v := (-1)) hx hb dX0_push_7 (by decide) ?_
    exact tz_ri Z hr hlk Y dX0_push_8 (by rw [xPush, if_pos c_4] <;> rfl) (by rw [xPush, if_pos c_4] <;> rfl)
set_option maxHeartbeats 4000000 in
set_option maxRecDepth 100000 in
theorem kX0_shift (l : Launch) (D : va_G) (a : Nat → Nat) (c : Nat → ClassId) (u : tzS) (x : Int32) : tzMi l yX0_shift cX0_shift 3 .int (tzR 0) D (wX0 a c) (tX0 c) [.ref (a 16), .int x] u ((xShift u x).1) ((xShift u x).2) := by
  refine tzMi.mk RX0 (by decide) rfl (Nat.le_of_ble_eq_true rfl) ?_
  intro p e s m below meth cd A ls Z hr hlk hA Y hl
  have hx := Z.1.1
  have hb := Z.1.2.1
  have hl : lv_has ls 3 [(0, .ref (a 16)), (1, .int x)] := hl
  refine lv_iload_n hx hb dX0_shift_0 rfl (lv_at hl 1 rfl) ?_
  refine lv_if_lt (tgt := 10) hx hb dX0_shift_1 (by decide) (fun c_1 => ?_) (fun c_1 => ?_)
  · refine lv_iconst (v := (-1)) hx hb dX0_shift_10 (by decide) ?_
    exact tz_ri Z hr hlk Y dX0_shift_11 (by rw [xShift, if_pos c_1] <;> rfl) (by rw [xShift, if_pos c_1] <;> rfl)
  · refine lv_iload_n hx hb dX0_shift_4 rfl (lv_at hl 1 rfl) ?_
    refine lv_bipush (v := 20) hx hb dX0_shift_5 (by decide) ?_
    refine lv_icmp_le (tgt := 12) hx hb dX0_shift_7 (by decide) (fun c_7 => ?_) (fun c_7 => ?_)
    · refine lv_aload_n hx hb dX0_shift_12 rfl (lv_at hl 0 rfl) ?_
      refine x0_geti 14 (by decide) Z Y q42 dX0_shift_13 ?_
      refine lv_istore_n (lv' := [(2, .int (u 14 0)), (0, .ref (a 16)), (1, .int x)]) hx hb dX0_shift_16 rfl hl (by decide) rfl (fun ls hl => ?_)
      refine lv_aload_n hx hb dX0_shift_17 rfl (lv_at hl 1 rfl) ?_
      refine lv_iload_n hx hb dX0_shift_18 rfl (lv_at hl 2 rfl) ?_
      refine x0_puti 14 (by decide) Z Y q42 dX0_shift_19 (fun H locs Y => ?_)
      refine lv_iload_n hx hb dX0_shift_22 rfl (lv_at hl 0 rfl) ?_
      exact tz_ri Z hr hlk Y dX0_shift_23 (by rw [xShift, if_neg c_1, if_pos c_7] <;> rfl) (by rw [xShift, if_neg c_1, if_pos c_7] <;> rfl)
    · refine lv_iconst (v := (-1)) hx hb dX0_shift_10 (by decide) ?_
      exact tz_ri Z hr hlk Y dX0_shift_11 (by rw [xShift, if_neg c_1, if_neg c_7] <;> rfl) (by rw [xShift, if_neg c_1, if_neg c_7] <;> rfl)
set_option maxHeartbeats 4000000 in
set_option maxRecDepth 100000 in
theorem kX0_position (l : Launch) (D : va_G) (a : Nat → Nat) (c : Nat → ClassId) (u : tzS) (ch j : Int32) : tzMi l yX0_position cX0_position 3 .int (tzR 1) D (wX0 a c) (tX0 c) [.ref (a 16), .int ch, .int j] u (xPos u ch j) u := by
  refine tzMi.mk RX0 (by decide) rfl (Nat.le_of_ble_eq_true rfl) ?_
  intro p e s m below meth cd A ls Z hr hlk hA Y hl
  have hx := Z.1.1
  have hb := Z.1.2.1
  have hl : lv_has ls 3 [(0, .ref (a 16)), (1, .int ch), (2, .int j)] := hl
  refine lv_iload_n hx hb dX0_position_0 rfl (lv_at hl 1 rfl) ?_
  refine tz_cSi Z Y hA ⟨Nat.zero_le _, Nat.zero_le _⟩ (kX0_isChain l D a c u ch) (va_cwS 1 Z.1.2.2.2.2 (lw_S q126 q127 q18 q128) rfl rfl rfl (by decide +kernel) ⟨by decide, by decide⟩) rfl hl.1 rfl (Nat.le_of_ble_eq_true rfl) dX0_position_1 (fun H locs Y => ?_)
  refine lv_if_eq (tgt := 27) hx hb dX0_position_4 (by decide) (fun c_4 => ?_) (fun c_4 => ?_)
  · refine lv_iconst (v := 0) hx hb dX0_position_27 (by decide) ?_
    exact tz_ri Z hr hlk Y dX0_position_28 (by rw [xPos, if_pos c_4] <;> rfl) rfl
  · have h1 := tz_isC c_4
    refine lv_iload_n hx hb dX0_position_7 rfl (lv_at hl 2 rfl) ?_
    refine tz_cSi Z Y hA ⟨Nat.zero_le _, Nat.zero_le _⟩ (kX0_isParameter l D a c u j) (va_cwS 1 Z.1.2.2.2.2 (lw_S q83 q84 q18 q85) rfl rfl rfl (by decide +kernel) ⟨by decide, by decide⟩) rfl hl.1 rfl (Nat.le_of_ble_eq_true rfl) dX0_position_8 (fun H locs Y => ?_)
    refine lv_if_eq (tgt := 27) hx hb dX0_position_11 (by decide) (fun c_11 => ?_) (fun c_11 => ?_)
    · refine lv_iconst (v := 0) hx hb dX0_position_27 (by decide) ?_
      exact tz_ri Z hr hlk Y dX0_position_28 (by rw [xPos, if_neg c_4, if_pos c_11] <;> rfl) rfl
    · have h2 := tz_isP c_11
      refine lv_aload_n hx hb dX0_position_14 rfl (lv_at hl 0 rfl) ?_
      refine x0_getr 5 (by decide) Z Y q33 dX0_position_15 ?_
      refine lv_iconst (v := 4) hx hb dX0_position_18 (by decide) ?_
      refine lv_iload_n hx hb dX0_position_19 rfl (lv_at hl 1 rfl) ?_
      refine lv_imul hx hb dX0_position_20 ?_
      refine lv_iload_n hx hb dX0_position_21 rfl (lv_at hl 2 rfl) ?_
      refine lv_iadd hx hb dX0_position_22 ?_
      refine x0_ald 5 (by decide) (i := 4 * tzix ch + tzix j) Z Y (tz_4 h1 h2) dX0_position_23 ?_
      refine lv_goto (tgt := 28) hx hb dX0_position_24 (by decide) ?_
      exact tz_ri Z hr hlk Y dX0_position_28 (by rw [xPos, if_neg c_4, if_neg c_11] <;> rfl) rfl
set_option maxHeartbeats 4000000 in
set_option maxRecDepth 100000 in
theorem kX0_momentum (l : Launch) (D : va_G) (a : Nat → Nat) (c : Nat → ClassId) (u : tzS) (ch j : Int32) : tzMi l yX0_momentum cX0_momentum 3 .int (tzR 1) D (wX0 a c) (tX0 c) [.ref (a 16), .int ch, .int j] u (xMom u ch j) u := by
  refine tzMi.mk RX0 (by decide) rfl (Nat.le_of_ble_eq_true rfl) ?_
  intro p e s m below meth cd A ls Z hr hlk hA Y hl
  have hx := Z.1.1
  have hb := Z.1.2.1
  have hl : lv_has ls 3 [(0, .ref (a 16)), (1, .int ch), (2, .int j)] := hl
  refine lv_iload_n hx hb dX0_momentum_0 rfl (lv_at hl 1 rfl) ?_
  refine tz_cSi Z Y hA ⟨Nat.zero_le _, Nat.zero_le _⟩ (kX0_isChain l D a c u ch) (va_cwS 1 Z.1.2.2.2.2 (lw_S q126 q127 q18 q128) rfl rfl rfl (by decide +kernel) ⟨by decide, by decide⟩) rfl hl.1 rfl (Nat.le_of_ble_eq_true rfl) dX0_momentum_1 (fun H locs Y => ?_)
  refine lv_if_eq (tgt := 27) hx hb dX0_momentum_4 (by decide) (fun c_4 => ?_) (fun c_4 => ?_)
  · refine lv_iconst (v := 0) hx hb dX0_momentum_27 (by decide) ?_
    exact tz_ri Z hr hlk Y dX0_momentum_28 (by rw [xMom, if_pos c_4] <;> rfl) rfl
  · have h1 := tz_isC c_4
    refine lv_iload_n hx hb dX0_momentum_7 rfl (lv_at hl 2 rfl) ?_
    refine tz_cSi Z Y hA ⟨Nat.zero_le _, Nat.zero_le _⟩ (kX0_isParameter l D a c u j) (va_cwS 1 Z.1.2.2.2.2 (lw_S q83 q84 q18 q85) rfl rfl rfl (by decide +kernel) ⟨by decide, by decide⟩) rfl hl.1 rfl (Nat.le_of_ble_eq_true rfl) dX0_momentum_8 (fun H locs Y => ?_)
    refine lv_if_eq (tgt := 27) hx hb dX0_momentum_11 (by decide) (fun c_11 => ?_) (fun c_11 => ?_)
    · refine lv_iconst (v := 0) hx hb dX0_momentum_27 (by decide) ?_
      exact tz_ri Z hr hlk Y dX0_momentum_28 (by rw [xMom, if_neg c_4, if_pos c_11] <;> rfl) rfl
    · have h2 := tz_isP c_11
      refine lv_aload_n hx hb dX0_momentum_14 rfl (lv_at hl 0 rfl) ?_
      refine x0_getr 6 (by decide) Z Y q34 dX0_momentum_15 ?_
      refine lv_iconst (v := 4) hx hb dX0_momentum_18 (by decide) ?_
      refine lv_iload_n hx hb dX0_momentum_19 rfl (lv_at hl 1 rfl) ?_
      refine lv_imul hx hb dX0_momentum_20 ?_
      refine lv_iload_n hx hb dX0_momentum_21 rfl (lv_at hl 2 rfl) ?_
      refine lv_iadd hx hb dX0_momentum_22 ?_
      refine x0_ald 6 (by decide) (i := 4 * tzix ch + tzix j) Z Y (tz_4 h1 h2) dX0_momentum_23 ?_
      refine lv_goto (tgt := 28) hx hb dX0_momentum_24 (by decide) ?_
      exact tz_ri Z hr hlk Y dX0_momentum_28 (by rw [xMom, if_neg c_4, if_neg c_11] <;> rfl) rfl
end
section
set_option maxRecDepth 100000
set_option maxHeartbeats 4000000 in
set_option maxRecDepth 100000 in
theorem kX0_computed (l : Launch) (D : va_G) (a : Nat → Nat) (c : Nat → ClassId) (u : tzS) (xk xb : Int32) {k b : Nat} (ek : xk = nI k) (eb : xb = nI b) (hk : k < 24) (hb8 : b ≤ 8) (hok : tznok k (u 0 k) (u 1 k) (u 2 k)) : tzMi l yX0_computed cX0_computed 6 .int (tzR 0) D (wX0 a c) (tX0 c) [.ref (a 16), .int xk, .int xb] u (xComp u b k) u := by
  subst ek
  subst eb
  refine tzMi.mk RX0 (by decide) rfl (Nat.le_of_ble_eq_true rfl) ?_
  intro p e s m below meth cd A ls Z hr hlk hA Y hl
  have hx := Z.1.1
  have hb := Z.1.2.1
  have hl : lv_has ls 6 [(0, .ref (a 16)), (1, .int (nI k)), (2, .int (nI b))] := hl
  refine lv_aload_n hx hb dX0_computed_0 rfl (lv_at hl 0 rfl) ?_
  refine x0_getr 0 (by decide) Z Y q28 dX0_computed_1 ?_
  refine lv_iload_n hx hb dX0_computed_4 rfl (lv_at hl 1 rfl) ?_
  refine x0_ald 0 (by decide) (i := k) Z Y (tzat_nI (show _ < 24 by omega)) dX0_computed_5 ?_
  refine lv_istore_n (lv' := [(3, .int (u 0 k)), (0, .ref (a 16)), (1, .int (nI k)), (2, .int (nI b))]) hx hb dX0_computed_6 rfl hl (by decide) rfl (fun ls hl => ?_)
  refine lv_iload_n hx hb dX0_computed_7 rfl (lv_at hl 0 rfl) ?_
  refine lv_if_ne (tgt := 25) hx hb dX0_computed_8 (by decide) (fun c_8 => ?_) (fun c_8 => ?_)
  · refine lv_iload_n hx hb dX0_computed_25 rfl (lv_at hl 0 rfl) ?_
    refine lv_iconst (v := 1) hx hb dX0_computed_26 (by decide) ?_
    refine lv_icmp_ne (tgt := 37) hx hb dX0_computed_27 (by decide) (fun c_27 => ?_) (fun c_27 => ?_)
    · have h1 := (hok.c c_8 c_27).1.le (show k ≤ 24 by omega)
      have h2 := (hok.c c_8 c_27).2.le (show k ≤ 24 by omega)
      refine lv_aload_n hx hb dX0_computed_37 rfl (lv_at hl 1 rfl) ?_
      refine x0_getr 7 (by decide) Z Y q35 dX0_computed_38 ?_
      refine lv_aload_n hx hb dX0_computed_41 rfl (lv_at hl 1 rfl) ?_
      refine x0_getr 1 (by decide) Z Y q29 dX0_computed_42 ?_
      refine lv_iload_n hx hb dX0_computed_45 rfl (lv_at hl 2 rfl) ?_
      refine x0_ald 1 (by decide) (i := k) Z Y (tzat_nI (show _ < 24 by omega)) dX0_computed_46 ?_
      refine x0_ald 7 (by decide) (i := tzix (u 1 k)) Z Y h1 dX0_computed_47 ?_
      refine lv_istore (lv' := [(4, .int (u 7 (tzix (u 1 k)))), (3, .int (u 0 k)), (0, .ref (a 16)), (1, .int (nI k)), (2, .int (nI b))]) hx hb dX0_computed_48 hl (by decide) rfl (fun ls hl => ?_)
      refine lv_aload_n hx hb dX0_computed_50 rfl (lv_at hl 2 rfl) ?_
      refine x0_getr 7 (by decide) Z Y q35 dX0_computed_51 ?_
      refine lv_aload_n hx hb dX0_computed_54 rfl (lv_at hl 2 rfl) ?_
      refine x0_getr 2 (by decide) Z Y q30 dX0_computed_55 ?_
      refine lv_iload_n hx hb dX0_computed_58 rfl (lv_at hl 3 rfl) ?_
      refine x0_ald 2 (by decide) (i := k) Z Y (tzat_nI (show _ < 24 by omega)) dX0_computed_59 ?_
      refine x0_ald 7 (by decide) (i := tzix (u 2 k)) Z Y h2 dX0_computed_60 ?_
      refine lv_istore (lv' := [(5, .int (u 7 (tzix (u 2 k)))), (4, .int (u 7 (tzix (u 1 k)))), (3, .int (u 0 k)), (0, .ref (a 16)), (1, .int (nI k)), (2, .int (nI b))]) hx hb dX0_computed_61 hl (by decide) rfl (fun ls hl => ?_)
      refine lv_iload_n hx hb dX0_computed_63 rfl (lv_at hl 2 rfl) ?_
      refine lv_iconst (v := 2) hx hb dX0_computed_64 (by decide) ?_
      refine lv_icmp_ne (tgt := 74) hx hb dX0_computed_65 (by decide) (fun c_65 => ?_) (fun c_65 => ?_)
      · refine lv_iload_n hx hb dX0_computed_74 rfl (lv_at hl 2 rfl) ?_
        refine lv_iconst (v := 3) hx hb dX0_computed_75 (by decide) ?_
        refine lv_icmp_ne (tgt := 87) hx hb dX0_computed_76 (by decide) (fun c_76 => ?_) (fun c_76 => ?_)
        · refine lv_iload hx hb dX0_computed_87 (lv_at hl 1 rfl) ?_
          refine lv_iload hx hb dX0_computed_89 (lv_at hl 0 rfl) ?_
          refine lv_imul hx hb dX0_computed_91 ?_
          exact tz_ri Z hr hlk Y dX0_computed_92 (by rw [xComp, tzcmp, if_neg c_8, if_neg c_27, if_neg c_65, if_neg c_76] <;> rfl) rfl
        · refine lv_iload hx hb dX0_computed_79 (lv_at hl 1 rfl) ?_
          refine lv_iload hx hb dX0_computed_81 (lv_at hl 0 rfl) ?_
          refine lv_isub hx hb dX0_computed_83 ?_
          refine lv_goto (tgt := 92) hx hb dX0_computed_84 (by decide) ?_
          exact tz_ri Z hr hlk Y dX0_computed_92 (by rw [xComp, tzcmp, if_neg c_8, if_neg c_27, if_neg c_65, if_pos c_76] <;> rfl) rfl
      · refine lv_iload hx hb dX0_computed_68 (lv_at hl 1 rfl) ?_
        refine lv_iload hx hb dX0_computed_70 (lv_at hl 0 rfl) ?_
        refine lv_iadd hx hb dX0_computed_72 ?_
        exact tz_ri Z hr hlk Y dX0_computed_73 (by rw [xComp, tzcmp, if_neg c_8, if_neg c_27, if_pos c_65] <;> rfl) rfl
    · refine lv_aload_n hx hb dX0_computed_30 rfl (lv_at hl 1 rfl) ?_
      refine x0_getr 1 (by decide) Z Y q29 dX0_computed_31 ?_
      refine lv_iload_n hx hb dX0_computed_34 rfl (lv_at hl 2 rfl) ?_
      refine x0_ald 1 (by decide) (i := k) Z Y (tzat_nI (show _ < 24 by omega)) dX0_computed_35 ?_
      exact tz_ri Z hr hlk Y dX0_computed_36 (by rw [xComp, tzcmp, if_neg c_8, if_pos c_27] <;> rfl) rfl
  · refine lv_aload_n hx hb dX0_computed_11 rfl (lv_at hl 1 rfl) ?_
    refine x0_getr 5 (by decide) Z Y q33 dX0_computed_12 ?_
    refine lv_iload_n hx hb dX0_computed_15 rfl (lv_at hl 3 rfl) ?_
    refine lv_aload_n hx hb dX0_computed_16 rfl (lv_at hl 1 rfl) ?_
    refine x0_getr 1 (by decide) Z Y q29 dX0_computed_17 ?_
    refine lv_iload_n hx hb dX0_computed_20 rfl (lv_at hl 2 rfl) ?_
    refine x0_ald 1 (by decide) (i := k) Z Y (tzat_nI (show _ < 24 by omega)) dX0_computed_21 ?_
    refine lv_iadd hx hb dX0_computed_22 ?_
    refine x0_ald 5 (by decide) (i := b + tzix (u 1 k)) Z Y (tz_b rfl hb8 (hok.p c_8)) dX0_computed_23 ?_
    exact tz_ri Z hr hlk Y dX0_computed_24 (by rw [xComp, tzcmp, if_pos c_8] <;> rfl) rfl
set_option maxHeartbeats 4000000 in
set_option maxRecDepth 100000 in
theorem kX0_changed (l : Launch) (D : va_G) (a : Nat → Nat) (c : Nat → ClassId) (u : tzS) (xk xb : Int32) {k b : Nat} (ek : xk = nI k) (eb : xb = nI b) (hk : k < 24) (hb8 : b ≤ 8) (hok : tznok k (u 0 k) (u 1 k) (u 2 k)) : tzMi l yX0_changed cX0_changed 6 .int (tzR 0) D (wX0 a c) (tX0 c) [.ref (a 16), .int xk, .int xb] u (xChg u b k) u := by
  subst ek
  subst eb
  refine tzMi.mk RX0 (by decide) rfl (Nat.le_of_ble_eq_true rfl) ?_
  intro p e s m below meth cd A ls Z hr hlk hA Y hl
  have hx := Z.1.1
  have hb := Z.1.2.1
  have hl : lv_has ls 6 [(0, .ref (a 16)), (1, .int (nI k)), (2, .int (nI b))] := hl
  refine lv_aload_n hx hb dX0_changed_0 rfl (lv_at hl 0 rfl) ?_
  refine x0_getr 0 (by decide) Z Y q28 dX0_changed_1 ?_
  refine lv_iload_n hx hb dX0_changed_4 rfl (lv_at hl 1 rfl) ?_
  refine x0_ald 0 (by decide) (i := k) Z Y (tzat_nI (show _ < 24 by omega)) dX0_changed_5 ?_
  refine lv_istore_n (lv' := [(3, .int (u 0 k)), (0, .ref (a 16)), (1, .int (nI k)), (2, .int (nI b))]) hx hb dX0_changed_6 rfl hl (by decide) rfl (fun ls hl => ?_)
  refine lv_iload_n hx hb dX0_changed_7 rfl (lv_at hl 0 rfl) ?_
  refine lv_if_ne (tgt := 25) hx hb dX0_changed_8 (by decide) (fun c_8 => ?_) (fun c_8 => ?_)
  · refine lv_iload_n hx hb dX0_changed_25 rfl (lv_at hl 0 rfl) ?_
    refine lv_iconst (v := 1) hx hb dX0_changed_26 (by decide) ?_
    refine lv_icmp_ne (tgt := 32) hx hb dX0_changed_27 (by decide) (fun c_27 => ?_) (fun c_27 => ?_)
    · have h1 := (hok.c c_8 c_27).1.le (show k ≤ 24 by omega)
      have h2 := (hok.c c_8 c_27).2.le (show k ≤ 24 by omega)
      refine lv_aload_n hx hb dX0_changed_32 rfl (lv_at hl 1 rfl) ?_
      refine x0_getr 9 (by decide) Z Y q37 dX0_changed_33 ?_
      refine lv_aload_n hx hb dX0_changed_36 rfl (lv_at hl 1 rfl) ?_
      refine x0_getr 1 (by decide) Z Y q29 dX0_changed_37 ?_
      refine lv_iload_n hx hb dX0_changed_40 rfl (lv_at hl 2 rfl) ?_
      refine x0_ald 1 (by decide) (i := k) Z Y (tzat_nI (show _ < 24 by omega)) dX0_changed_41 ?_
      refine x0_ald 9 (by decide) (i := tzix (u 1 k)) Z Y h1 dX0_changed_42 ?_
      refine lv_istore (lv' := [(4, .int (u 9 (tzix (u 1 k)))), (3, .int (u 0 k)), (0, .ref (a 16)), (1, .int (nI k)), (2, .int (nI b))]) hx hb dX0_changed_43 hl (by decide) rfl (fun ls hl => ?_)
      refine lv_aload_n hx hb dX0_changed_45 rfl (lv_at hl 2 rfl) ?_
      refine x0_getr 9 (by decide) Z Y q37 dX0_changed_46 ?_
      refine lv_aload_n hx hb dX0_changed_49 rfl (lv_at hl 2 rfl) ?_
      refine x0_getr 2 (by decide) Z Y q30 dX0_changed_50 ?_
      refine lv_iload_n hx hb dX0_changed_53 rfl (lv_at hl 3 rfl) ?_
      refine x0_ald 2 (by decide) (i := k) Z Y (tzat_nI (show _ < 24 by omega)) dX0_changed_54 ?_
      refine x0_ald 9 (by decide) (i := tzix (u 2 k)) Z Y h2 dX0_changed_55 ?_
      refine lv_istore (lv' := [(5, .int (u 9 (tzix (u 2 k)))), (4, .int (u 9 (tzix (u 1 k)))), (3, .int (u 0 k)), (0, .ref (a 16)), (1, .int (nI k)), (2, .int (nI b))]) hx hb dX0_changed_56 hl (by decide) rfl (fun ls hl => ?_)
      refine lv_iload_n hx hb dX0_changed_58 rfl (lv_at hl 2 rfl) ?_
      refine lv_iconst (v := 2) hx hb dX0_changed_59 (by decide) ?_
      refine lv_icmp_ne (tgt := 69) hx hb dX0_changed_60 (by decide) (fun c_60 => ?_) (fun c_60 => ?_)
      · refine lv_iload_n hx hb dX0_changed_69 rfl (lv_at hl 2 rfl) ?_
        refine lv_iconst (v := 3) hx hb dX0_changed_70 (by decide) ?_
        refine lv_icmp_ne (tgt := 82) hx hb dX0_changed_71 (by decide) (fun c_71 => ?_) (fun c_71 => ?_)
        · refine lv_iload hx hb dX0_changed_82 (lv_at hl 1 rfl) ?_
          refine lv_aload_n hx hb dX0_changed_84 rfl (lv_at hl 3 rfl) ?_
          refine x0_getr 7 (by decide) Z Y q35 dX0_changed_85 ?_
          refine lv_aload_n hx hb dX0_changed_88 rfl (lv_at hl 3 rfl) ?_
          refine x0_getr 2 (by decide) Z Y q30 dX0_changed_89 ?_
          refine lv_iload_n hx hb dX0_changed_92 rfl (lv_at hl 4 rfl) ?_
          refine x0_ald 2 (by decide) (i := k) Z Y (tzat_nI (show _ < 24 by omega)) dX0_changed_93 ?_
          refine x0_ald 7 (by decide) (i := tzix (u 2 k)) Z Y h2 dX0_changed_94 ?_
          refine lv_imul hx hb dX0_changed_95 ?_
          refine lv_aload_n hx hb dX0_changed_96 rfl (lv_at hl 3 rfl) ?_
          refine x0_getr 7 (by decide) Z Y q35 dX0_changed_97 ?_
          refine lv_aload_n hx hb dX0_changed_100 rfl (lv_at hl 3 rfl) ?_
          refine x0_getr 1 (by decide) Z Y q29 dX0_changed_101 ?_
          refine lv_iload_n hx hb dX0_changed_104 rfl (lv_at hl 4 rfl) ?_
          refine x0_ald 1 (by decide) (i := k) Z Y (tzat_nI (show _ < 24 by omega)) dX0_changed_105 ?_
          refine x0_ald 7 (by decide) (i := tzix (u 1 k)) Z Y h1 dX0_changed_106 ?_
          refine lv_iload hx hb dX0_changed_107 (lv_at hl 0 rfl) ?_
          refine lv_imul hx hb dX0_changed_109 ?_
          refine lv_iadd hx hb dX0_changed_110 ?_
          exact tz_ri Z hr hlk Y dX0_changed_111 (by rw [xChg, tzchg, if_neg c_8, if_neg c_27, if_neg c_60, if_neg c_71] <;> rfl) rfl
        · refine lv_iload hx hb dX0_changed_74 (lv_at hl 1 rfl) ?_
          refine lv_iload hx hb dX0_changed_76 (lv_at hl 0 rfl) ?_
          refine lv_isub hx hb dX0_changed_78 ?_
          refine lv_goto (tgt := 111) hx hb dX0_changed_79 (by decide) ?_
          exact tz_ri Z hr hlk Y dX0_changed_111 (by rw [xChg, tzchg, if_neg c_8, if_neg c_27, if_neg c_60, if_pos c_71] <;> rfl) rfl
      · refine lv_iload hx hb dX0_changed_63 (lv_at hl 1 rfl) ?_
        refine lv_iload hx hb dX0_changed_65 (lv_at hl 0 rfl) ?_
        refine lv_iadd hx hb dX0_changed_67 ?_
        exact tz_ri Z hr hlk Y dX0_changed_68 (by rw [xChg, tzchg, if_neg c_8, if_neg c_27, if_pos c_60] <;> rfl) rfl
    · refine lv_iconst (v := 0) hx hb dX0_changed_30 (by decide) ?_
      exact tz_ri Z hr hlk Y dX0_changed_31 (by rw [xChg, tzchg, if_neg c_8, if_pos c_27] <;> rfl) rfl
  · refine lv_aload_n hx hb dX0_changed_11 rfl (lv_at hl 1 rfl) ?_
    refine x0_getr 6 (by decide) Z Y q34 dX0_changed_12 ?_
    refine lv_iload_n hx hb dX0_changed_15 rfl (lv_at hl 3 rfl) ?_
    refine lv_aload_n hx hb dX0_changed_16 rfl (lv_at hl 1 rfl) ?_
    refine x0_getr 1 (by decide) Z Y q29 dX0_changed_17 ?_
    refine lv_iload_n hx hb dX0_changed_20 rfl (lv_at hl 2 rfl) ?_
    refine x0_ald 1 (by decide) (i := k) Z Y (tzat_nI (show _ < 24 by omega)) dX0_changed_21 ?_
    refine lv_iadd hx hb dX0_changed_22 ?_
    refine x0_ald 6 (by decide) (i := b + tzix (u 1 k)) Z Y (tz_b rfl hb8 (hok.p c_8)) dX0_changed_23 ?_
    exact tz_ri Z hr hlk Y dX0_changed_24 (by rw [xChg, tzchg, if_pos c_8] <;> rfl) rfl
set_option maxHeartbeats 4000000 in
set_option maxRecDepth 100000 in
theorem kX0_handOn (l : Launch) (D : va_G) (a : Nat → Nat) (c : Nat → ClassId) (u : tzS) (xk : Int32) {k : Nat} (ek : xk = nI k) (hk : k < 24) (hok : tznok k (u 0 k) (u 1 k) (u 2 k)) : tzMv l yX0_handOn cX0_handOn 6 (tzR 0) D (wX0 a c) (tX0 c) [.ref (a 16), .int xk] u (xHand k u) := by
  subst ek
  refine tzMv.mk RX0 (by decide) rfl (Nat.le_of_ble_eq_true rfl) ?_
  intro p e s m below meth cd A ls Z hr hlk hA Y hl
  have hx := Z.1.1
  have hb := Z.1.2.1
  have hl : lv_has ls 6 [(0, .ref (a 16)), (1, .int (nI k))] := hl
  refine lv_aload_n hx hb dX0_handOn_0 rfl (lv_at hl 0 rfl) ?_
  refine x0_getr 0 (by decide) Z Y q28 dX0_handOn_1 ?_
  refine lv_iload_n hx hb dX0_handOn_4 rfl (lv_at hl 1 rfl) ?_
  refine x0_ald 0 (by decide) (i := k) Z Y (tzat_nI (show _ < 24 by omega)) dX0_handOn_5 ?_
  refine lv_istore_n (lv' := [(2, .int (u 0 k)), (0, .ref (a 16)), (1, .int (nI k))]) hx hb dX0_handOn_6 rfl hl (by decide) rfl (fun ls hl => ?_)
  refine lv_aload_n hx hb dX0_handOn_7 rfl (lv_at hl 1 rfl) ?_
  refine x0_getr 8 (by decide) Z Y q36 dX0_handOn_8 ?_
  refine lv_iload_n hx hb dX0_handOn_11 rfl (lv_at hl 2 rfl) ?_
  refine x0_ald 8 (by decide) (i := k) Z Y (tzat_nI (show _ < 24 by omega)) dX0_handOn_12 ?_
  refine lv_istore_n (lv' := [(3, .int (u 8 k)), (2, .int (u 0 k)), (0, .ref (a 16)), (1, .int (nI k))]) hx hb dX0_handOn_13 rfl hl (by decide) rfl (fun ls hl => ?_)
  refine lv_aload_n hx hb dX0_handOn_14 rfl (lv_at hl 2 rfl) ?_
  refine x0_getr 1 (by decide) Z Y q29 dX0_handOn_15 ?_
  refine lv_iload_n hx hb dX0_handOn_18 rfl (lv_at hl 3 rfl) ?_
  refine x0_ald 1 (by decide) (i := k) Z Y (tzat_nI (show _ < 24 by omega)) dX0_handOn_19 ?_
  refine lv_istore (lv' := [(4, .int (u 1 k)), (3, .int (u 8 k)), (2, .int (u 0 k)), (0, .ref (a 16)), (1, .int (nI k))]) hx hb dX0_handOn_20 hl (by decide) rfl (fun ls hl => ?_)
  refine lv_aload_n hx hb dX0_handOn_22 rfl (lv_at hl 3 rfl) ?_
  refine x0_getr 2 (by decide) Z Y q30 dX0_handOn_23 ?_
  refine lv_iload_n hx hb dX0_handOn_26 rfl (lv_at hl 4 rfl) ?_
  refine x0_ald 2 (by decide) (i := k) Z Y (tzat_nI (show _ < 24 by omega)) dX0_handOn_27 ?_
  refine lv_istore (lv' := [(5, .int (u 2 k)), (4, .int (u 1 k)), (3, .int (u 8 k)), (2, .int (u 0 k)), (0, .ref (a 16)), (1, .int (nI k))]) hx hb dX0_handOn_28 hl (by decide) rfl (fun ls hl => ?_)
  refine lv_iload_n hx hb dX0_handOn_30 rfl (lv_at hl 3 rfl) ?_
  refine lv_if_ne (tgt := 48) hx hb dX0_handOn_31 (by decide) (fun c_31 => ?_) (fun c_31 => ?_)
  · refine lv_iload_n hx hb dX0_handOn_48 rfl (lv_at hl 3 rfl) ?_
    refine lv_iconst (v := 2) hx hb dX0_handOn_49 (by decide) ?_
    refine lv_icmp_ne (tgt := 78) hx hb dX0_handOn_50 (by decide) (fun c_50 => ?_) (fun c_50 => ?_)
    · refine lv_iload_n hx hb dX0_handOn_78 rfl (lv_at hl 3 rfl) ?_
      refine lv_iconst (v := 3) hx hb dX0_handOn_79 (by decide) ?_
      refine lv_icmp_ne (tgt := 108) hx hb dX0_handOn_80 (by decide) (fun c_80 => ?_) (fun c_80 => ?_)
      · refine lv_iload_n hx hb dX0_handOn_108 rfl (lv_at hl 3 rfl) ?_
        refine lv_iconst (v := 4) hx hb dX0_handOn_109 (by decide) ?_
        refine lv_icmp_eq (tgt := 118) hx hb dX0_handOn_110 (by decide) (fun c_110 => ?_) (fun c_110 => ?_)
        · have h1 := (hok.s (Or.inr (Or.inr (Or.inl c_110)))).1.le (show k ≤ 24 by omega)
          have h2 := (hok.s (Or.inr (Or.inr (Or.inl c_110)))).2.le (show k ≤ 24 by omega)
          refine lv_aload_n hx hb dX0_handOn_118 rfl (lv_at hl 4 rfl) ?_
          refine x0_getr 8 (by decide) Z Y q36 dX0_handOn_119 ?_
          refine lv_iload hx hb dX0_handOn_122 (lv_at hl 1 rfl) ?_
          refine lv_dup2_11 hx hb dX0_handOn_124 rfl rfl ?_
          refine x0_ald 8 (by decide) (i := tzix (u 1 k)) Z Y h1 dX0_handOn_125 ?_
          refine lv_iload_n hx hb dX0_handOn_126 rfl (lv_at hl 2 rfl) ?_
          refine lv_aload_n hx hb dX0_handOn_127 rfl (lv_at hl 4 rfl) ?_
          refine x0_getr 7 (by decide) Z Y q35 dX0_handOn_128 ?_
          refine lv_iload hx hb dX0_handOn_131 (lv_at hl 0 rfl) ?_
          refine x0_ald 7 (by decide) (i := tzix (u 2 k)) Z Y h2 dX0_handOn_133 ?_
          refine lv_imul hx hb dX0_handOn_134 ?_
          refine lv_iadd hx hb dX0_handOn_135 ?_
          refine x0_ast 8 (by decide) (i := tzix (u 1 k)) Z Y h1 dX0_handOn_136 (fun H locs Y => ?_)
          refine lv_aload_n hx hb dX0_handOn_137 rfl (lv_at hl 4 rfl) ?_
          refine x0_getr 8 (by decide) Z Y q36 dX0_handOn_138 ?_
          refine lv_iload hx hb dX0_handOn_141 (lv_at hl 0 rfl) ?_
          refine lv_dup2_11 hx hb dX0_handOn_143 rfl rfl ?_
          refine x0_ald 8 (by decide) (i := tzix (u 2 k)) Z Y h2 dX0_handOn_144 ?_
          refine lv_iload_n hx hb dX0_handOn_145 rfl (lv_at hl 2 rfl) ?_
          refine lv_aload_n hx hb dX0_handOn_146 rfl (lv_at hl 4 rfl) ?_
          refine x0_getr 7 (by decide) Z Y q35 dX0_handOn_147 ?_
          refine lv_iload hx hb dX0_handOn_150 (lv_at hl 1 rfl) ?_
          refine x0_ald 7 (by decide) (i := tzix (u 1 k)) Z Y h1 dX0_handOn_152 ?_
          refine lv_imul hx hb dX0_handOn_153 ?_
          refine lv_iadd hx hb dX0_handOn_154 ?_
          refine x0_ast 8 (by decide) (i := tzix (u 2 k)) Z Y h2 dX0_handOn_155 (fun H locs Y => ?_)
          exact tz_rv Z hr hlk Y dX0_handOn_156 (by rw [xHand, if_neg c_31, if_neg c_50, if_neg c_80, if_pos c_110] <;> rfl)
        · refine lv_iload_n hx hb dX0_handOn_113 rfl (lv_at hl 3 rfl) ?_
          refine lv_iconst (v := 5) hx hb dX0_handOn_114 (by decide) ?_
          refine lv_icmp_ne (tgt := 156) hx hb dX0_handOn_115 (by decide) (fun c_115 => ?_) (fun c_115 => ?_)
          · exact tz_rv Z hr hlk Y dX0_handOn_156 (by rw [xHand, if_neg c_31, if_neg c_50, if_neg c_80, if_neg c_110, if_neg c_115] <;> rfl)
          · have h1 := (hok.s (Or.inr (Or.inr (Or.inr c_115)))).1.le (show k ≤ 24 by omega)
            have h2 := (hok.s (Or.inr (Or.inr (Or.inr c_115)))).2.le (show k ≤ 24 by omega)
            refine lv_aload_n hx hb dX0_handOn_118 rfl (lv_at hl 4 rfl) ?_
            refine x0_getr 8 (by decide) Z Y q36 dX0_handOn_119 ?_
            refine lv_iload hx hb dX0_handOn_122 (lv_at hl 1 rfl) ?_
            refine lv_dup2_11 hx hb dX0_handOn_124 rfl rfl ?_
            refine x0_ald 8 (by decide) (i := tzix (u 1 k)) Z Y h1 dX0_handOn_125 ?_
            refine lv_iload_n hx hb dX0_handOn_126 rfl (lv_at hl 2 rfl) ?_
            refine lv_aload_n hx hb dX0_handOn_127 rfl (lv_at hl 4 rfl) ?_
            refine x0_getr 7 (by decide) Z Y q35 dX0_handOn_128 ?_
            refine lv_iload hx hb dX0_handOn_131 (lv_at hl 0 rfl) ?_
            refine x0_ald 7 (by decide) (i := tzix (u 2 k)) Z Y h2 dX0_handOn_133 ?_
            refine lv_imul hx hb dX0_handOn_134 ?_
            refine lv_iadd hx hb dX0_handOn_135 ?_
            refine x0_ast 8 (by decide) (i := tzix (u 1 k)) Z Y h1 dX0_handOn_136 (fun H locs Y => ?_)
            refine lv_aload_n hx hb dX0_handOn_137 rfl (lv_at hl 4 rfl) ?_
            refine x0_getr 8 (by decide) Z Y q36 dX0_handOn_138 ?_
            refine lv_iload hx hb dX0_handOn_141 (lv_at hl 0 rfl) ?_
            refine lv_dup2_11 hx hb dX0_handOn_143 rfl rfl ?_
            refine x0_ald 8 (by decide) (i := tzix (u 2 k)) Z Y h2 dX0_handOn_144 ?_
            refine lv_iload_n hx hb dX0_handOn_145 rfl (lv_at hl 2 rfl) ?_
            refine lv_aload_n hx hb dX0_handOn_146 rfl (lv_at hl 4 rfl) ?_
            refine x0_getr 7 (by decide) Z Y q35 dX0_handOn_147 ?_
            refine lv_iload hx hb dX0_handOn_150 (lv_at hl 1 rfl) ?_
            refine x0_ald 7 (by decide) (i := tzix (u 1 k)) Z Y h1 dX0_handOn_152 ?_
            refine lv_imul hx hb dX0_handOn_153 ?_
            refine lv_iadd hx hb dX0_handOn_154 ?_
            refine x0_ast 8 (by decide) (i := tzix (u 2 k)) Z Y h2 dX0_handOn_155 (fun H locs Y => ?_)
            exact tz_rv Z hr hlk Y dX0_handOn_156 (by rw [xHand, if_neg c_31, if_neg c_50, if_neg c_80, if_neg c_110, if_pos c_115] <;> rfl)
      · have h1 := (hok.s (Or.inr (Or.inl c_80))).1.le (show k ≤ 24 by omega)
        have h2 := (hok.s (Or.inr (Or.inl c_80))).2.le (show k ≤ 24 by omega)
        refine lv_aload_n hx hb dX0_handOn_83 rfl (lv_at hl 4 rfl) ?_
        refine x0_getr 8 (by decide) Z Y q36 dX0_handOn_84 ?_
        refine lv_iload hx hb dX0_handOn_87 (lv_at hl 1 rfl) ?_
        refine lv_dup2_11 hx hb dX0_handOn_89 rfl rfl ?_
        refine x0_ald 8 (by decide) (i := tzix (u 1 k)) Z Y h1 dX0_handOn_90 ?_
        refine lv_iload_n hx hb dX0_handOn_91 rfl (lv_at hl 2 rfl) ?_
        refine lv_iadd hx hb dX0_handOn_92 ?_
        refine x0_ast 8 (by decide) (i := tzix (u 1 k)) Z Y h1 dX0_handOn_93 (fun H locs Y => ?_)
        refine lv_aload_n hx hb dX0_handOn_94 rfl (lv_at hl 4 rfl) ?_
        refine x0_getr 8 (by decide) Z Y q36 dX0_handOn_95 ?_
        refine lv_iload hx hb dX0_handOn_98 (lv_at hl 0 rfl) ?_
        refine lv_dup2_11 hx hb dX0_handOn_100 rfl rfl ?_
        refine x0_ald 8 (by decide) (i := tzix (u 2 k)) Z Y h2 dX0_handOn_101 ?_
        refine lv_iload_n hx hb dX0_handOn_102 rfl (lv_at hl 2 rfl) ?_
        refine lv_isub hx hb dX0_handOn_103 ?_
        refine x0_ast 8 (by decide) (i := tzix (u 2 k)) Z Y h2 dX0_handOn_104 (fun H locs Y => ?_)
        refine lv_goto (tgt := 156) hx hb dX0_handOn_105 (by decide) ?_
        exact tz_rv Z hr hlk Y dX0_handOn_156 (by rw [xHand, if_neg c_31, if_neg c_50, if_pos c_80] <;> rfl)
    · have h1 := (hok.s (Or.inl c_50)).1.le (show k ≤ 24 by omega)
      have h2 := (hok.s (Or.inl c_50)).2.le (show k ≤ 24 by omega)
      refine lv_aload_n hx hb dX0_handOn_53 rfl (lv_at hl 4 rfl) ?_
      refine x0_getr 8 (by decide) Z Y q36 dX0_handOn_54 ?_
      refine lv_iload hx hb dX0_handOn_57 (lv_at hl 1 rfl) ?_
      refine lv_dup2_11 hx hb dX0_handOn_59 rfl rfl ?_
      refine x0_ald 8 (by decide) (i := tzix (u 1 k)) Z Y h1 dX0_handOn_60 ?_
      refine lv_iload_n hx hb dX0_handOn_61 rfl (lv_at hl 2 rfl) ?_
      refine lv_iadd hx hb dX0_handOn_62 ?_
      refine x0_ast 8 (by decide) (i := tzix (u 1 k)) Z Y h1 dX0_handOn_63 (fun H locs Y => ?_)
      refine lv_aload_n hx hb dX0_handOn_64 rfl (lv_at hl 4 rfl) ?_
      refine x0_getr 8 (by decide) Z Y q36 dX0_handOn_65 ?_
      refine lv_iload hx hb dX0_handOn_68 (lv_at hl 0 rfl) ?_
      refine lv_dup2_11 hx hb dX0_handOn_70 rfl rfl ?_
      refine x0_ald 8 (by decide) (i := tzix (u 2 k)) Z Y h2 dX0_handOn_71 ?_
      refine lv_iload_n hx hb dX0_handOn_72 rfl (lv_at hl 2 rfl) ?_
      refine lv_iadd hx hb dX0_handOn_73 ?_
      refine x0_ast 8 (by decide) (i := tzix (u 2 k)) Z Y h2 dX0_handOn_74 (fun H locs Y => ?_)
      refine lv_goto (tgt := 156) hx hb dX0_handOn_75 (by decide) ?_
      exact tz_rv Z hr hlk Y dX0_handOn_156 (by rw [xHand, if_neg c_31, if_pos c_50] <;> rfl)
  · refine lv_aload_n hx hb dX0_handOn_34 rfl (lv_at hl 4 rfl) ?_
    refine x0_getr 11 (by decide) Z Y q39 dX0_handOn_35 ?_
    refine lv_iload hx hb dX0_handOn_38 (lv_at hl 1 rfl) ?_
    refine lv_dup2_11 hx hb dX0_handOn_40 rfl rfl ?_
    refine x0_ald 11 (by decide) (i := tzix (u 1 k)) Z Y (hok.p c_31) dX0_handOn_41 ?_
    refine lv_iload_n hx hb dX0_handOn_42 rfl (lv_at hl 2 rfl) ?_
    refine lv_iadd hx hb dX0_handOn_43 ?_
    refine x0_ast 11 (by decide) (i := tzix (u 1 k)) Z Y (hok.p c_31) dX0_handOn_44 (fun H locs Y => ?_)
    refine lv_goto (tgt := 156) hx hb dX0_handOn_45 (by decide) ?_
    exact tz_rv Z hr hlk Y dX0_handOn_156 (by rw [xHand, if_pos c_31] <;> rfl)
set_option maxHeartbeats 4000000 in
set_option maxRecDepth 100000 in
theorem kX0_kick (l : Launch) (D : va_G) (a : Nat → Nat) (c : Nat → ClassId) (u : tzS) (xb : Int32) {b : Nat} (eb : xb = nI b) (hb8 : b ≤ 8) : tzMv l yX0_kick cX0_kick 3 (tzR 0) D (wX0 a c) (tX0 c) [.ref (a 16), .int xb] u (xKick u b) := by
  subst eb
  refine tzMv.mk RX0 (by decide) rfl (Nat.le_of_ble_eq_true rfl) ?_
  intro p e s m below meth cd A ls Z hr hlk hA Y hl
  have hx := Z.1.1
  have hb := Z.1.2.1
  have hl : lv_has ls 3 [(0, .ref (a 16)), (1, .int (nI b))] := hl
  refine lv_iconst (v := nI 0) hx hb dX0_kick_0 (by decide) ?_
  refine lv_istore_n (lv' := [(2, .int (nI 0)), (0, .ref (a 16)), (1, .int (nI b))]) hx hb dX0_kick_1 rfl hl (by decide) rfl (fun ls hl => ?_)
  refine tz_loop (G := fun i H locs ls => tzY D A s.heap (wX0 a c (tzit (xKk1 b) i u)) H locs ∧ lv_has ls 3 [(0, .ref (a 16)), (1, .int (nI b)), (2, .int (nI i))]) 4 ?_ ?_ ⟨by rw [tzit_0]; exact Y, lv_sub hl [1, 2, 0] rfl⟩
  · rintro i H locs ls hi ⟨Y, hl⟩ ih
    refine lv_iload_n hx hb dX0_kick_2 rfl (lv_at hl 2 rfl) ?_
    refine lv_iconst (v := nI 4) hx hb dX0_kick_3 (by decide) ?_
    refine lv_icmp_ge (tgt := 35) hx hb dX0_kick_4 (by decide) (fun c9 => absurd c9 (nI_ge hi (by omega))) (fun _ => ?_)
    refine lv_aload_n hx hb dX0_kick_7 rfl (lv_at hl 0 rfl) ?_
    refine x0_getr 6 (by decide) Z Y q34 dX0_kick_8 ?_
    refine lv_iload_n hx hb dX0_kick_11 rfl (lv_at hl 1 rfl) ?_
    refine lv_iload_n hx hb dX0_kick_12 rfl (lv_at hl 2 rfl) ?_
    refine lv_iadd hx hb dX0_kick_13 ?_
    refine lv_dup2_11 hx hb dX0_kick_14 rfl rfl ?_
    refine x0_ald 6 (by decide) (i := b + i) Z Y (tz_b rfl hb8 (tzat_nI hi)) dX0_kick_15 ?_
    refine lv_aload_n hx hb dX0_kick_16 rfl (lv_at hl 0 rfl) ?_
    refine x0_getr 11 (by decide) Z Y q39 dX0_kick_17 ?_
    refine lv_iload_n hx hb dX0_kick_20 rfl (lv_at hl 2 rfl) ?_
    refine x0_ald 11 (by decide) (i := i) Z Y (tzat_nI (show _ < 4 by omega)) dX0_kick_21 ?_
    refine lv_aload_n hx hb dX0_kick_22 rfl (lv_at hl 0 rfl) ?_
    refine x0_geti 14 (by decide) Z Y q42 dX0_kick_23 ?_
    refine lv_ishr hx hb dX0_kick_26 ?_
    refine lv_iadd hx hb dX0_kick_27 ?_
    refine x0_ast 6 (by decide) (i := b + i) Z Y (tz_b rfl hb8 (tzat_nI hi)) dX0_kick_28 (fun H locs Y => ?_)
    refine lv_iinc (v := nI (i + 1)) (lv' := [(2, .int (nI (i + 1))), (0, .ref (a 16)), (1, .int (nI b))]) hx hb dX0_kick_29 hl (k := 2) rfl (tz_inc i) (by decide) rfl (fun ls hl => ?_)
    refine lv_goto (tgt := 2) hx hb dX0_kick_32 (by decide) ?_
    have e9 : tzit (xKk1 b) (i + 1) u = tzst (tzit (xKk1 b) i u) 6 (b + i) (((tzit (xKk1 b) i u) 6 (b + i)) + (((tzit (xKk1 b) i u) 11 i) >>> (((tzit (xKk1 b) i u) 14 0) &&& 31))) := by
      rw [tzit_s, xKk1, tzad] <;> rfl
    exact ih _ _ _ ⟨by rw [e9]; exact Y, lv_sub hl [1, 2, 0] rfl⟩
  · rintro H locs ls ⟨Y, hl⟩
    refine lv_iload_n hx hb dX0_kick_2 rfl (lv_at hl 2 rfl) ?_
    refine lv_iconst (v := nI 4) hx hb dX0_kick_3 (by decide) ?_
    refine lv_icmp_ge (tgt := 35) hx hb dX0_kick_4 (by decide) (fun _ => ?_) (fun c9 => absurd (Int32.le_refl _) c9)
    exact tz_rv Z hr hlk Y dX0_kick_35 rfl
end
section
set_option maxRecDepth 100000
set_option maxHeartbeats 4000000 in
set_option maxRecDepth 100000 in
theorem kX0_mark (l : Launch) (D : va_G) (a : Nat → Nat) (c : Nat → ClassId) (u : tzS) {n t : Nat} (hW : tzWF u n t) : tzMv l yX0_mark cX0_mark 2 (tzR 1) D (wX0 a c) (tX0 c) [.ref (a 16)] u (xMark u) := by
  refine tzMv.mk RX0 (by decide) rfl (Nat.le_of_ble_eq_true rfl) ?_
  intro p e s m below meth cd A ls Z hr hlk hA Y hl
  have hx := Z.1.1
  have hb := Z.1.2.1
  have hl : lv_has ls 2 [(0, .ref (a 16))] := hl
  have n24 : n ≤ 24 := hW.2.1
  have t8 : t ≤ 8 := hW.2.2.2.1
  refine lv_aload_n hx hb dX0_mark_0 rfl (lv_at hl 0 rfl) ?_
  refine x0_geti 15 (by decide) Z Y q43 dX0_mark_1 ?_
  refine lv_if_eq (tgt := 8) hx hb dX0_mark_4 (by decide) (fun c_4 => ?_) (fun c_4 => ?_)
  · refine lv_aload_n hx hb dX0_mark_8 rfl (lv_at hl 0 rfl) ?_
    refine lv_iconst (v := 1) hx hb dX0_mark_9 (by decide) ?_
    refine x0_putz Z Y q43 rfl rfl dX0_mark_10 (fun H locs Y => ?_)
    refine lv_iconst (v := nI 0) hx hb dX0_mark_13 (by decide) ?_
    refine lv_istore_n (lv' := [(1, .int (nI 0)), (0, .ref (a 16))]) hx hb dX0_mark_14 rfl hl (by decide) rfl (fun ls hl => ?_)
    refine tz_loop (G := fun i H locs ls => tzY D A s.heap (wX0 a c (tzit xClr1 i (tzpt u 15 1))) H locs ∧ lv_has ls 2 [(0, .ref (a 16)), (1, .int (nI i))]) 24 ?_ ?_ ⟨by rw [tzit_0]; exact Y, lv_sub hl [1, 0] rfl⟩
    · rintro i H locs ls hi ⟨Y, hl⟩ ih
      refine lv_iload_n hx hb dX0_mark_15 rfl (lv_at hl 1 rfl) ?_
      refine lv_bipush (v := nI 24) hx hb dX0_mark_16 (by decide) ?_
      refine lv_icmp_ge (tgt := 34) hx hb dX0_mark_18 (by decide) (fun c9 => absurd c9 (nI_ge hi (by omega))) (fun _ => ?_)
      refine lv_aload_n hx hb dX0_mark_21 rfl (lv_at hl 0 rfl) ?_
      refine x0_getr 10 (by decide) Z Y q38 dX0_mark_22 ?_
      refine lv_iload_n hx hb dX0_mark_25 rfl (lv_at hl 1 rfl) ?_
      refine lv_iconst (v := 0) hx hb dX0_mark_26 (by decide) ?_
      refine x0_zast (i := i) (v := 0) Z Y (tzat_nI (show _ < 24 by omega)) (by decide) dX0_mark_27 (fun H locs Y => ?_)
      refine lv_iinc (v := nI (i + 1)) (lv' := [(1, .int (nI (i + 1))), (0, .ref (a 16))]) hx hb dX0_mark_28 hl (k := 1) rfl (tz_inc i) (by decide) rfl (fun ls hl => ?_)
      refine lv_goto (tgt := 15) hx hb dX0_mark_31 (by decide) ?_
      have e9 : tzit xClr1 (i + 1) (tzpt u 15 1) = tzst (tzit xClr1 i (tzpt u 15 1)) 10 i 0 := by
        rw [tzit_s, xClr1] <;> rfl
      exact ih _ _ _ ⟨by rw [e9]; exact Y, lv_sub hl [1, 0] rfl⟩
    · rintro H locs ls ⟨Y, hl⟩
      refine lv_iload_n hx hb dX0_mark_15 rfl (lv_at hl 1 rfl) ?_
      refine lv_bipush (v := nI 24) hx hb dX0_mark_16 (by decide) ?_
      refine lv_icmp_ge (tgt := 34) hx hb dX0_mark_18 (by decide) (fun _ => ?_) (fun c9 => absurd (Int32.le_refl _) c9)
      refine lv_iconst (v := nI 0) hx hb dX0_mark_34 (by decide) ?_
      refine lv_istore_n (lv' := [(1, .int (nI 0)), (0, .ref (a 16))]) hx hb dX0_mark_35 rfl hl (by decide) rfl (fun ls hl => ?_)
      refine tz_loop (G := fun i H locs ls => tzY D A s.heap (wX0 a c (tzit xTm1 i (tzit xClr1 24 (tzpt u 15 1)))) H locs ∧ lv_has ls 2 [(0, .ref (a 16)), (1, .int (nI i))]) t ?_ ?_ ⟨by rw [tzit_0]; exact Y, lv_sub hl [1, 0] rfl⟩
      · rintro i H locs ls hi ⟨Y, hl⟩ ih
        have w9 : tzWF (tzit xTm1 i (tzit xClr1 24 (tzpt u 15 1))) n t := hW.kp (xMkB_kp u i) (by decide)
        refine lv_iload_n hx hb dX0_mark_36 rfl (lv_at hl 1 rfl) ?_
        refine lv_aload_n hx hb dX0_mark_37 rfl (lv_at hl 0 rfl) ?_
        refine x0_geti 13 (by decide) Z Y q41 dX0_mark_38 ?_
        refine tz_top (y := nI t) w9.2.2.1 ?_
        refine lv_icmp_ge (tgt := 62) hx hb dX0_mark_41 (by decide) (fun c9 => absurd c9 (nI_ge hi (by omega))) (fun _ => ?_)
        refine lv_aload_n hx hb dX0_mark_44 rfl (lv_at hl 0 rfl) ?_
        refine x0_getr 10 (by decide) Z Y q38 dX0_mark_45 ?_
        refine lv_aload_n hx hb dX0_mark_48 rfl (lv_at hl 0 rfl) ?_
        refine x0_getr 3 (by decide) Z Y q31 dX0_mark_49 ?_
        refine lv_iload_n hx hb dX0_mark_52 rfl (lv_at hl 1 rfl) ?_
        refine x0_ald 3 (by decide) (i := i) Z Y (tzat_nI (show _ < 8 by omega)) dX0_mark_53 ?_
        refine lv_iconst (v := 1) hx hb dX0_mark_54 (by decide) ?_
        refine x0_zast (i := tzix ((tzit xTm1 i (tzit xClr1 24 (tzpt u 15 1))) 3 i)) (v := 1) Z Y (w9.tn hi) (by decide) dX0_mark_55 (fun H locs Y => ?_)
        refine lv_iinc (v := nI (i + 1)) (lv' := [(1, .int (nI (i + 1))), (0, .ref (a 16))]) hx hb dX0_mark_56 hl (k := 1) rfl (tz_inc i) (by decide) rfl (fun ls hl => ?_)
        refine lv_goto (tgt := 36) hx hb dX0_mark_59 (by decide) ?_
        have e9 : tzit xTm1 (i + 1) (tzit xClr1 24 (tzpt u 15 1)) = tzst (tzit xTm1 i (tzit xClr1 24 (tzpt u 15 1))) 10 (tzix ((tzit xTm1 i (tzit xClr1 24 (tzpt u 15 1))) 3 i)) 1 := by
          rw [tzit_s, xTm1] <;> rfl
        exact ih _ _ _ ⟨by rw [e9]; exact Y, lv_sub hl [1, 0] rfl⟩
      · rintro H locs ls ⟨Y, hl⟩
        have w9 : tzWF (tzit xTm1 t (tzit xClr1 24 (tzpt u 15 1))) n t := hW.kp (xMkB_kp u t) (by decide)
        refine lv_iload_n hx hb dX0_mark_36 rfl (lv_at hl 1 rfl) ?_
        refine lv_aload_n hx hb dX0_mark_37 rfl (lv_at hl 0 rfl) ?_
        refine x0_geti 13 (by decide) Z Y q41 dX0_mark_38 ?_
        refine tz_top (y := nI t) w9.2.2.1 ?_
        refine lv_icmp_ge (tgt := 62) hx hb dX0_mark_41 (by decide) (fun _ => ?_) (fun c9 => absurd (Int32.le_refl _) c9)
        refine lv_aload_n hx hb dX0_mark_62 rfl (lv_at hl 0 rfl) ?_
        refine x0_geti 12 (by decide) Z Y q40 dX0_mark_63 ?_
        refine tz_top (y := nI n) w9.1 ?_
        refine lv_iconst (v := 1) hx hb dX0_mark_66 (by decide) ?_
        refine lv_isub hx hb dX0_mark_67 ?_
        refine lv_istore_n (lv' := [(1, .int ((nI n) - 1)), (0, .ref (a 16))]) hx hb dX0_mark_68 rfl hl (by decide) rfl (fun ls hl => ?_)
        refine tz_loopD (G := fun r H locs ls => ∃ z, tzY D A s.heap (wX0 a c z) H locs ∧ lv_has ls 2 [(0, .ref (a 16)), (1, .int (nI r - 1))] ∧ tzdn xMk1 r z = tzdn xMk1 n (tzit xTm1 t (tzit xClr1 24 (tzpt u 15 1))) ∧ tzKp [10, 15] u z) n ?_ ?_ ⟨_, Y, lv_sub hl [1, 0] rfl, ⟨rfl, xMkB_kp u t⟩⟩
        · rintro r H locs ls hi ⟨z, Y, hl, ⟨h9, k9⟩⟩ ih
          rw [nI_pred] at hl
          have w9 : tzWF z n t := hW.kp k9 (by decide)
          refine lv_iload_n hx hb dX0_mark_69 rfl (lv_at hl 1 rfl) ?_
          refine lv_if_lt (tgt := 124) hx hb dX0_mark_70 (by decide) (fun c9 => absurd c9 (nI_pos (by omega))) (fun _ => ?_)
          refine lv_aload_n hx hb dX0_mark_73 rfl (lv_at hl 0 rfl) ?_
          refine x0_getr 10 (by decide) Z Y q38 dX0_mark_74 ?_
          refine lv_iload_n hx hb dX0_mark_77 rfl (lv_at hl 1 rfl) ?_
          refine x0_zald (i := r) Z Y (tzat_nI (show _ < 24 by omega)) dX0_mark_78 ?_
          refine lv_if_eq (tgt := 118) hx hb dX0_mark_79 (by decide) (fun c_79 => ?_) (fun c_79 => ?_)
          · refine lv_iinc (v := (nI r) - 1) (lv' := [(1, .int ((nI r) - 1)), (0, .ref (a 16))]) hx hb dX0_mark_118 hl (k := 1) rfl (tz_dec _) (by decide) rfl (fun ls hl => ?_)
            refine lv_goto (tgt := 69) hx hb dX0_mark_121 (by decide) ?_
            have e9 : xMk1 r z = z := by rw [xMk1, if_pos c_79] <;> rfl
            exact ih _ _ _ ⟨_, Y, lv_sub hl [1, 0] rfl, by rw [← e9]; exact h9, by rw [← e9]; exact k9.tr (xMk1_kp r z)⟩
          · refine lv_aload_n hx hb dX0_mark_82 rfl (lv_at hl 0 rfl) ?_
            refine x0_getr 0 (by decide) Z Y q28 dX0_mark_83 ?_
            refine lv_iload_n hx hb dX0_mark_86 rfl (lv_at hl 1 rfl) ?_
            refine x0_ald 0 (by decide) (i := r) Z Y (tzat_nI (show _ < 24 by omega)) dX0_mark_87 ?_
            refine tz_cSi Z Y hA ⟨Nat.zero_le _, Nat.zero_le _⟩ (kX0_hasParts l D a c z (z 0 r)) (va_cwS 1 Z.1.2.2.2.2 (lw_S q165 q166 q18 q167) rfl rfl rfl (by decide +kernel) ⟨by decide, by decide⟩) rfl hl.1 rfl (Nat.le_of_ble_eq_true rfl) dX0_mark_88 (fun H locs Y => ?_)
            refine lv_if_eq (tgt := 118) hx hb dX0_mark_91 (by decide) (fun c_91 => ?_) (fun c_91 => ?_)
            · refine lv_iinc (v := (nI r) - 1) (lv' := [(1, .int ((nI r) - 1)), (0, .ref (a 16))]) hx hb dX0_mark_118 hl (k := 1) rfl (tz_dec _) (by decide) rfl (fun ls hl => ?_)
              refine lv_goto (tgt := 69) hx hb dX0_mark_121 (by decide) ?_
              have e9 : xMk1 r z = z := by rw [xMk1, if_neg c_79, if_pos c_91] <;> rfl
              exact ih _ _ _ ⟨_, Y, lv_sub hl [1, 0] rfl, by rw [← e9]; exact h9, by rw [← e9]; exact k9.tr (xMk1_kp r z)⟩
            · have h1 := ((w9.nd hi).h c_91).1.le (show r ≤ 24 by omega)
              have h2 := ((w9.nd hi).h c_91).2.le (show r ≤ 24 by omega)
              refine lv_aload_n hx hb dX0_mark_94 rfl (lv_at hl 0 rfl) ?_
              refine x0_getr 10 (by decide) Z Y q38 dX0_mark_95 ?_
              refine lv_aload_n hx hb dX0_mark_98 rfl (lv_at hl 0 rfl) ?_
              refine x0_getr 1 (by decide) Z Y q29 dX0_mark_99 ?_
              refine lv_iload_n hx hb dX0_mark_102 rfl (lv_at hl 1 rfl) ?_
              refine x0_ald 1 (by decide) (i := r) Z Y (tzat_nI (show _ < 24 by omega)) dX0_mark_103 ?_
              refine lv_iconst (v := 1) hx hb dX0_mark_104 (by decide) ?_
              refine x0_zast (i := tzix (z 1 r)) (v := 1) Z Y h1 (by decide) dX0_mark_105 (fun H locs Y => ?_)
              refine lv_aload_n hx hb dX0_mark_106 rfl (lv_at hl 0 rfl) ?_
              refine x0_getr 10 (by decide) Z Y q38 dX0_mark_107 ?_
              refine lv_aload_n hx hb dX0_mark_110 rfl (lv_at hl 0 rfl) ?_
              refine x0_getr 2 (by decide) Z Y q30 dX0_mark_111 ?_
              refine lv_iload_n hx hb dX0_mark_114 rfl (lv_at hl 1 rfl) ?_
              refine x0_ald 2 (by decide) (i := r) Z Y (tzat_nI (show _ < 24 by omega)) dX0_mark_115 ?_
              refine lv_iconst (v := 1) hx hb dX0_mark_116 (by decide) ?_
              refine x0_zast (i := tzix (z 2 r)) (v := 1) Z Y h2 (by decide) dX0_mark_117 (fun H locs Y => ?_)
              refine lv_iinc (v := (nI r) - 1) (lv' := [(1, .int ((nI r) - 1)), (0, .ref (a 16))]) hx hb dX0_mark_118 hl (k := 1) rfl (tz_dec _) (by decide) rfl (fun ls hl => ?_)
              refine lv_goto (tgt := 69) hx hb dX0_mark_121 (by decide) ?_
              have e9 : xMk1 r z = tzst (tzst z 10 (tzix (z 1 r)) 1) 10 (tzix (z 2 r)) 1 := by rw [xMk1, if_neg c_79, if_neg c_91] <;> rfl
              exact ih _ _ _ ⟨_, Y, lv_sub hl [1, 0] rfl, by rw [← e9]; exact h9, by rw [← e9]; exact k9.tr (xMk1_kp r z)⟩
        · rintro H locs ls ⟨z, Y, hl, ⟨h9, k9⟩⟩
          refine lv_iload_n hx hb dX0_mark_69 rfl (lv_at hl 1 rfl) ?_
          refine lv_if_lt (tgt := 124) hx hb dX0_mark_70 (by decide) (fun _ => ?_) (fun c9 => absurd (by decide +kernel) c9)
          exact tz_rv Z hr hlk Y dX0_mark_124 (by rw [xMark, if_pos c_4, hW.n, hW.t]; exact h9)
  · exact tz_rv Z hr hlk Y dX0_mark_7 (by rw [xMark, if_neg c_4] <;> rfl)
set_option maxHeartbeats 4000000 in
set_option maxRecDepth 100000 in
theorem kX0_evaluate (l : Launch) (D : va_G) (a : Nat → Nat) (c : Nat → ClassId) (u : tzS) (xb : Int32) {b : Nat} (eb : xb = nI b) (hb8 : b ≤ 8) {n t : Nat} (hW : tzWF u n t) : tzMi l yX0_evaluate cX0_evaluate 4 .int (tzR 2) D (wX0 a c) (tX0 c) [.ref (a 16), .int xb] u (xEvR (xEvS u b)) (xEvS u b) := by
  subst eb
  refine tzMi.mk RX0 (by decide) rfl (Nat.le_of_ble_eq_true rfl) ?_
  intro p e s m below meth cd A ls Z hr hlk hA Y hl
  have hx := Z.1.1
  have hb := Z.1.2.1
  have hl : lv_has ls 4 [(0, .ref (a 16)), (1, .int (nI b))] := hl
  have n24 : n ≤ 24 := hW.2.1
  have t8 : t ≤ 8 := hW.2.2.2.1
  refine lv_aload_n hx hb dX0_evaluate_0 rfl (lv_at hl 0 rfl) ?_
  refine tz_cVv (ci := 0) (C := RX0) Z Y hA ⟨Nat.zero_le _, Nat.zero_le _⟩ (kX0_mark l D a c u hW) rfl rfl (cwV 0 Z.1.2.2.2.2 (lw_V q161 q163 qs4 q18 q164) rfl rfl rfl (by decide +kernel) ⟨by decide, by decide⟩) rfl hl.1 rfl (Nat.le_of_ble_eq_true rfl) dX0_evaluate_1 (fun H locs Y => ?_)
  refine lv_iconst (v := nI 0) hx hb dX0_evaluate_4 (by decide) ?_
  refine lv_istore_n (lv' := [(2, .int (nI 0)), (0, .ref (a 16)), (1, .int (nI b))]) hx hb dX0_evaluate_5 rfl hl (by decide) rfl (fun ls hl => ?_)
  refine tz_loop (G := fun i H locs ls => tzY D A s.heap (wX0 a c (tzit (xEv1 b) i (xMark u))) H locs ∧ lv_has ls 4 [(0, .ref (a 16)), (1, .int (nI b)), (2, .int (nI i))]) n ?_ ?_ ⟨by rw [tzit_0]; exact Y, lv_sub hl [1, 2, 0] rfl⟩
  · rintro i H locs ls hi ⟨Y, hl⟩ ih
    have w9 : tzWF (tzit (xEv1 b) i (xMark u)) n t := hW.kp (xEvI_kp u b i) (by decide)
    refine lv_iload_n hx hb dX0_evaluate_6 rfl (lv_at hl 2 rfl) ?_
    refine lv_aload_n hx hb dX0_evaluate_7 rfl (lv_at hl 0 rfl) ?_
    refine x0_geti 12 (by decide) Z Y q40 dX0_evaluate_8 ?_
    refine tz_top (y := nI n) w9.1 ?_
    refine lv_icmp_ge (tgt := 41) hx hb dX0_evaluate_11 (by decide) (fun c9 => absurd c9 (nI_ge hi (by omega))) (fun _ => ?_)
    refine lv_aload_n hx hb dX0_evaluate_14 rfl (lv_at hl 0 rfl) ?_
    refine x0_getr 10 (by decide) Z Y q38 dX0_evaluate_15 ?_
    refine lv_iload_n hx hb dX0_evaluate_18 rfl (lv_at hl 2 rfl) ?_
    refine x0_zald (i := i) Z Y (tzat_nI (show _ < 24 by omega)) dX0_evaluate_19 ?_
    refine lv_if_eq (tgt := 35) hx hb dX0_evaluate_20 (by decide) (fun c_20 => ?_) (fun c_20 => ?_)
    · refine lv_iinc (v := nI (i + 1)) (lv' := [(2, .int (nI (i + 1))), (0, .ref (a 16)), (1, .int (nI b))]) hx hb dX0_evaluate_35 hl (k := 2) rfl (tz_inc i) (by decide) rfl (fun ls hl => ?_)
      refine lv_goto (tgt := 6) hx hb dX0_evaluate_38 (by decide) ?_
      have e9 : tzit (xEv1 b) (i + 1) (xMark u) = tzit (xEv1 b) i (xMark u) := by
        rw [tzit_s, xEv1, if_pos c_20] <;> rfl
      exact ih _ _ _ ⟨by rw [e9]; exact Y, lv_sub hl [1, 2, 0] rfl⟩
    · refine lv_aload_n hx hb dX0_evaluate_23 rfl (lv_at hl 0 rfl) ?_
      refine x0_getr 7 (by decide) Z Y q35 dX0_evaluate_24 ?_
      refine lv_iload_n hx hb dX0_evaluate_27 rfl (lv_at hl 2 rfl) ?_
      refine lv_aload_n hx hb dX0_evaluate_28 rfl (lv_at hl 0 rfl) ?_
      refine lv_iload_n hx hb dX0_evaluate_29 rfl (lv_at hl 2 rfl) ?_
      refine lv_iload_n hx hb dX0_evaluate_30 rfl (lv_at hl 1 rfl) ?_
      refine tz_cVi (ci := 0) (C := RX0) Z Y hA ⟨Nat.zero_le _, Nat.zero_le _⟩ (kX0_computed l D a c (tzit (xEv1 b) i (xMark u)) (nI i) (nI b) rfl rfl (by omega) hb8 (w9.nd hi)) rfl rfl (cwV 2 Z.1.2.2.2.2 (lw_V q149 q151 qs2 q18 q152) rfl rfl rfl (by decide +kernel) ⟨by decide, by decide⟩) rfl hl.1 rfl (Nat.le_of_ble_eq_true rfl) dX0_evaluate_31 (fun H locs Y => ?_)
      refine x0_ast 7 (by decide) (i := i) Z Y (tzat_nI (show _ < 24 by omega)) dX0_evaluate_34 (fun H locs Y => ?_)
      refine lv_iinc (v := nI (i + 1)) (lv' := [(2, .int (nI (i + 1))), (0, .ref (a 16)), (1, .int (nI b))]) hx hb dX0_evaluate_35 hl (k := 2) rfl (tz_inc i) (by decide) rfl (fun ls hl => ?_)
      refine lv_goto (tgt := 6) hx hb dX0_evaluate_38 (by decide) ?_
      have e9 : tzit (xEv1 b) (i + 1) (xMark u) = tzst (tzit (xEv1 b) i (xMark u)) 7 i (xComp (tzit (xEv1 b) i (xMark u)) b i) := by
        rw [tzit_s, xEv1, if_neg c_20] <;> rfl
      exact ih _ _ _ ⟨by rw [e9]; exact Y, lv_sub hl [1, 2, 0] rfl⟩
  · rintro H locs ls ⟨Y, hl⟩
    have w9 : tzWF (tzit (xEv1 b) n (xMark u)) n t := hW.kp (xEvI_kp u b n) (by decide)
    refine lv_iload_n hx hb dX0_evaluate_6 rfl (lv_at hl 2 rfl) ?_
    refine lv_aload_n hx hb dX0_evaluate_7 rfl (lv_at hl 0 rfl) ?_
    refine x0_geti 12 (by decide) Z Y q40 dX0_evaluate_8 ?_
    refine tz_top (y := nI n) w9.1 ?_
    refine lv_icmp_ge (tgt := 41) hx hb dX0_evaluate_11 (by decide) (fun _ => ?_) (fun c9 => absurd (Int32.le_refl _) c9)
    obtain ⟨z, ez⟩ : ∃ z, z = tzit (xEv1 b) n (xMark u) := ⟨_, rfl⟩
    rw [← ez] at Y
    have w9 : tzWF z n t := by rw [ez]; exact w9
    refine lv_iconst (v := 0) hx hb dX0_evaluate_41 (by decide) ?_
    refine lv_istore_n (lv' := [(2, .int 0), (0, .ref (a 16)), (1, .int (nI b))]) hx hb dX0_evaluate_42 rfl hl (by decide) rfl (fun ls hl => ?_)
    refine lv_iconst (v := nI 0) hx hb dX0_evaluate_43 (by decide) ?_
    refine lv_istore_n (lv' := [(3, .int (nI 0)), (2, .int 0), (0, .ref (a 16)), (1, .int (nI b))]) hx hb dX0_evaluate_44 rfl hl (by decide) rfl (fun ls hl => ?_)
    refine tz_loop (G := fun i H locs ls => tzY D A s.heap (wX0 a c z) H locs ∧ lv_has ls 4 [(0, .ref (a 16)), (1, .int (nI b)), (2, .int (tzsm (fun t => z 4 t * z 7 (tzix (z 3 t))) i)), (3, .int (nI i))]) t ?_ ?_ ⟨Y, lv_sub hl [2, 3, 1, 0] rfl⟩
    · rintro i H locs ls hi ⟨Y, hl⟩ ih
      refine lv_iload_n hx hb dX0_evaluate_45 rfl (lv_at hl 3 rfl) ?_
      refine lv_aload_n hx hb dX0_evaluate_46 rfl (lv_at hl 0 rfl) ?_
      refine x0_geti 13 (by decide) Z Y q41 dX0_evaluate_47 ?_
      refine tz_top (y := nI t) w9.2.2.1 ?_
      refine lv_icmp_ge (tgt := 80) hx hb dX0_evaluate_50 (by decide) (fun c9 => absurd c9 (nI_ge hi (by omega))) (fun _ => ?_)
      refine lv_iload_n hx hb dX0_evaluate_53 rfl (lv_at hl 2 rfl) ?_
      refine lv_aload_n hx hb dX0_evaluate_54 rfl (lv_at hl 0 rfl) ?_
      refine x0_getr 4 (by decide) Z Y q32 dX0_evaluate_55 ?_
      refine lv_iload_n hx hb dX0_evaluate_58 rfl (lv_at hl 3 rfl) ?_
      refine x0_ald 4 (by decide) (i := i) Z Y (tzat_nI (show _ < 8 by omega)) dX0_evaluate_59 ?_
      refine lv_aload_n hx hb dX0_evaluate_60 rfl (lv_at hl 0 rfl) ?_
      refine x0_getr 7 (by decide) Z Y q35 dX0_evaluate_61 ?_
      refine lv_aload_n hx hb dX0_evaluate_64 rfl (lv_at hl 0 rfl) ?_
      refine x0_getr 3 (by decide) Z Y q31 dX0_evaluate_65 ?_
      refine lv_iload_n hx hb dX0_evaluate_68 rfl (lv_at hl 3 rfl) ?_
      refine x0_ald 3 (by decide) (i := i) Z Y (tzat_nI (show _ < 8 by omega)) dX0_evaluate_69 ?_
      refine x0_ald 7 (by decide) (i := tzix (z 3 i)) Z Y (w9.tn hi) dX0_evaluate_70 ?_
      refine lv_imul hx hb dX0_evaluate_71 ?_
      refine lv_iadd hx hb dX0_evaluate_72 ?_
      refine lv_istore_n (lv' := [(2, .int ((tzsm (fun t => z 4 t * z 7 (tzix (z 3 t))) i) + ((z 4 i) * (z 7 (tzix (z 3 i)))))), (0, .ref (a 16)), (1, .int (nI b)), (3, .int (nI i))]) hx hb dX0_evaluate_73 rfl hl (by decide) rfl (fun ls hl => ?_)
      refine lv_iinc (v := nI (i + 1)) (lv' := [(3, .int (nI (i + 1))), (2, .int ((tzsm (fun t => z 4 t * z 7 (tzix (z 3 t))) i) + ((z 4 i) * (z 7 (tzix (z 3 i)))))), (0, .ref (a 16)), (1, .int (nI b))]) hx hb dX0_evaluate_74 hl (k := 3) rfl (tz_inc i) (by decide) rfl (fun ls hl => ?_)
      refine lv_goto (tgt := 45) hx hb dX0_evaluate_77 (by decide) ?_
      exact ih _ _ _ ⟨Y, lv_sub hl [2, 3, 1, 0] rfl⟩
    · rintro H locs ls ⟨Y, hl⟩
      refine lv_iload_n hx hb dX0_evaluate_45 rfl (lv_at hl 3 rfl) ?_
      refine lv_aload_n hx hb dX0_evaluate_46 rfl (lv_at hl 0 rfl) ?_
      refine x0_geti 13 (by decide) Z Y q41 dX0_evaluate_47 ?_
      refine tz_top (y := nI t) w9.2.2.1 ?_
      refine lv_icmp_ge (tgt := 80) hx hb dX0_evaluate_50 (by decide) (fun _ => ?_) (fun c9 => absurd (Int32.le_refl _) c9)
      refine lv_iload_n hx hb dX0_evaluate_80 rfl (lv_at hl 2 rfl) ?_
      exact tz_ri Z hr hlk Y dX0_evaluate_81 (by rw [xEvR, xEvS, hW.n, ← ez, w9.t]) (by rw [xEvS, hW.n, ez])
set_option maxHeartbeats 4000000 in
set_option maxRecDepth 100000 in
theorem kX0_sweep (l : Launch) (D : va_G) (a : Nat → Nat) (c : Nat → ClassId) (u : tzS) (xb : Int32) {b : Nat} (eb : xb = nI b) (hb8 : b ≤ 8) {n t : Nat} (hW : tzWF u n t) : tzMv l yX0_sweep cX0_sweep 3 (tzR 3) D (wX0 a c) (tX0 c) [.ref (a 16), .int xb] u (xSwp u b) := by
  subst eb
  refine tzMv.mk RX0 (by decide) rfl (Nat.le_of_ble_eq_true rfl) ?_
  intro p e s m below meth cd A ls Z hr hlk hA Y hl
  have hx := Z.1.1
  have hb := Z.1.2.1
  have hl : lv_has ls 3 [(0, .ref (a 16)), (1, .int (nI b))] := hl
  have n24 : n ≤ 24 := hW.2.1
  have t8 : t ≤ 8 := hW.2.2.2.1
  refine lv_aload_n hx hb dX0_sweep_0 rfl (lv_at hl 0 rfl) ?_
  refine lv_iload_n hx hb dX0_sweep_1 rfl (lv_at hl 1 rfl) ?_
  refine tz_cVi (ci := 0) (C := RX0) Z Y hA ⟨Nat.zero_le _, Nat.zero_le _⟩ (kX0_evaluate l D a c u (nI b) rfl hb8 hW) rfl rfl (cwV 1 Z.1.2.2.2.2 (lw_V q157 q159 qs3 q18 q160) rfl rfl rfl (by decide +kernel) ⟨by decide, by decide⟩) rfl hl.1 rfl (Nat.le_of_ble_eq_true rfl) dX0_sweep_2 (fun H locs Y => ?_)
  refine lv_pop hx hb dX0_sweep_5 rfl ?_
  refine lv_iconst (v := nI 0) hx hb dX0_sweep_6 (by decide) ?_
  refine lv_istore_n (lv' := [(2, .int (nI 0)), (0, .ref (a 16)), (1, .int (nI b))]) hx hb dX0_sweep_7 rfl hl (by decide) rfl (fun ls hl => ?_)
  refine tz_loop (G := fun i H locs ls => tzY D A s.heap (wX0 a c (tzit xSh0 i (xEvS u b))) H locs ∧ lv_has ls 3 [(0, .ref (a 16)), (1, .int (nI b)), (2, .int (nI i))]) n ?_ ?_ ⟨by rw [tzit_0]; exact Y, lv_sub hl [1, 2, 0] rfl⟩
  · rintro i H locs ls hi ⟨Y, hl⟩ ih
    have w9 : tzWF (tzit xSh0 i (xEvS u b)) n t := hW.kp (xSwA_kp u b i) (by decide)
    refine lv_iload_n hx hb dX0_sweep_8 rfl (lv_at hl 2 rfl) ?_
    refine lv_aload_n hx hb dX0_sweep_9 rfl (lv_at hl 0 rfl) ?_
    refine x0_geti 12 (by decide) Z Y q40 dX0_sweep_10 ?_
    refine tz_top (y := nI n) w9.1 ?_
    refine lv_icmp_ge (tgt := 29) hx hb dX0_sweep_13 (by decide) (fun c9 => absurd c9 (nI_ge hi (by omega))) (fun _ => ?_)
    refine lv_aload_n hx hb dX0_sweep_16 rfl (lv_at hl 0 rfl) ?_
    refine x0_getr 8 (by decide) Z Y q36 dX0_sweep_17 ?_
    refine lv_iload_n hx hb dX0_sweep_20 rfl (lv_at hl 2 rfl) ?_
    refine lv_iconst (v := 0) hx hb dX0_sweep_21 (by decide) ?_
    refine x0_ast 8 (by decide) (i := i) Z Y (tzat_nI (show _ < 24 by omega)) dX0_sweep_22 (fun H locs Y => ?_)
    refine lv_iinc (v := nI (i + 1)) (lv' := [(2, .int (nI (i + 1))), (0, .ref (a 16)), (1, .int (nI b))]) hx hb dX0_sweep_23 hl (k := 2) rfl (tz_inc i) (by decide) rfl (fun ls hl => ?_)
    refine lv_goto (tgt := 8) hx hb dX0_sweep_26 (by decide) ?_
    have e9 : tzit xSh0 (i + 1) (xEvS u b) = tzst (tzit xSh0 i (xEvS u b)) 8 i 0 := by
      rw [tzit_s, xSh0] <;> rfl
    exact ih _ _ _ ⟨by rw [e9]; exact Y, lv_sub hl [1, 2, 0] rfl⟩
  · rintro H locs ls ⟨Y, hl⟩
    have w9 : tzWF (tzit xSh0 n (xEvS u b)) n t := hW.kp (xSwA_kp u b n) (by decide)
    refine lv_iload_n hx hb dX0_sweep_8 rfl (lv_at hl 2 rfl) ?_
    refine lv_aload_n hx hb dX0_sweep_9 rfl (lv_at hl 0 rfl) ?_
    refine x0_geti 12 (by decide) Z Y q40 dX0_sweep_10 ?_
    refine tz_top (y := nI n) w9.1 ?_
    refine lv_icmp_ge (tgt := 29) hx hb dX0_sweep_13 (by decide) (fun _ => ?_) (fun c9 => absurd (Int32.le_refl _) c9)
    refine lv_iconst (v := nI 0) hx hb dX0_sweep_29 (by decide) ?_
    refine lv_istore_n (lv' := [(2, .int (nI 0)), (0, .ref (a 16)), (1, .int (nI b))]) hx hb dX0_sweep_30 rfl hl (by decide) rfl (fun ls hl => ?_)
    refine tz_loop (G := fun i H locs ls => tzY D A s.heap (wX0 a c (tzit xSl0 i (tzit xSh0 n (xEvS u b)))) H locs ∧ lv_has ls 3 [(0, .ref (a 16)), (1, .int (nI b)), (2, .int (nI i))]) 4 ?_ ?_ ⟨by rw [tzit_0]; exact Y, lv_sub hl [1, 2, 0] rfl⟩
    · rintro i H locs ls hi ⟨Y, hl⟩ ih
      refine lv_iload_n hx hb dX0_sweep_31 rfl (lv_at hl 2 rfl) ?_
      refine lv_iconst (v := nI 4) hx hb dX0_sweep_32 (by decide) ?_
      refine lv_icmp_ge (tgt := 49) hx hb dX0_sweep_33 (by decide) (fun c9 => absurd c9 (nI_ge hi (by omega))) (fun _ => ?_)
      refine lv_aload_n hx hb dX0_sweep_36 rfl (lv_at hl 0 rfl) ?_
      refine x0_getr 11 (by decide) Z Y q39 dX0_sweep_37 ?_
      refine lv_iload_n hx hb dX0_sweep_40 rfl (lv_at hl 2 rfl) ?_
      refine lv_iconst (v := 0) hx hb dX0_sweep_41 (by decide) ?_
      refine x0_ast 11 (by decide) (i := i) Z Y (tzat_nI (show _ < 4 by omega)) dX0_sweep_42 (fun H locs Y => ?_)
      refine lv_iinc (v := nI (i + 1)) (lv' := [(2, .int (nI (i + 1))), (0, .ref (a 16)), (1, .int (nI b))]) hx hb dX0_sweep_43 hl (k := 2) rfl (tz_inc i) (by decide) rfl (fun ls hl => ?_)
      refine lv_goto (tgt := 31) hx hb dX0_sweep_46 (by decide) ?_
      have e9 : tzit xSl0 (i + 1) (tzit xSh0 n (xEvS u b)) = tzst (tzit xSl0 i (tzit xSh0 n (xEvS u b))) 11 i 0 := by
        rw [tzit_s, xSl0] <;> rfl
      exact ih _ _ _ ⟨by rw [e9]; exact Y, lv_sub hl [1, 2, 0] rfl⟩
    · rintro H locs ls ⟨Y, hl⟩
      refine lv_iload_n hx hb dX0_sweep_31 rfl (lv_at hl 2 rfl) ?_
      refine lv_iconst (v := nI 4) hx hb dX0_sweep_32 (by decide) ?_
      refine lv_icmp_ge (tgt := 49) hx hb dX0_sweep_33 (by decide) (fun _ => ?_) (fun c9 => absurd (Int32.le_refl _) c9)
      refine lv_iconst (v := nI 0) hx hb dX0_sweep_49 (by decide) ?_
      refine lv_istore_n (lv' := [(2, .int (nI 0)), (0, .ref (a 16)), (1, .int (nI b))]) hx hb dX0_sweep_50 rfl hl (by decide) rfl (fun ls hl => ?_)
      refine tz_loop (G := fun i H locs ls => tzY D A s.heap (wX0 a c (tzit xSh1 i (tzit xSl0 4 (tzit xSh0 n (xEvS u b))))) H locs ∧ lv_has ls 3 [(0, .ref (a 16)), (1, .int (nI b)), (2, .int (nI i))]) t ?_ ?_ ⟨by rw [tzit_0]; exact Y, lv_sub hl [1, 2, 0] rfl⟩
      · rintro i H locs ls hi ⟨Y, hl⟩ ih
        have w9 : tzWF (tzit xSh1 i (tzit xSl0 4 (tzit xSh0 n (xEvS u b)))) n t := hW.kp (xSwC_kp u b n i) (by decide)
        refine lv_iload_n hx hb dX0_sweep_51 rfl (lv_at hl 2 rfl) ?_
        refine lv_aload_n hx hb dX0_sweep_52 rfl (lv_at hl 0 rfl) ?_
        refine x0_geti 13 (by decide) Z Y q41 dX0_sweep_53 ?_
        refine tz_top (y := nI t) w9.2.2.1 ?_
        refine lv_icmp_ge (tgt := 85) hx hb dX0_sweep_56 (by decide) (fun c9 => absurd c9 (nI_ge hi (by omega))) (fun _ => ?_)
        refine lv_aload_n hx hb dX0_sweep_59 rfl (lv_at hl 0 rfl) ?_
        refine x0_getr 8 (by decide) Z Y q36 dX0_sweep_60 ?_
        refine lv_aload_n hx hb dX0_sweep_63 rfl (lv_at hl 0 rfl) ?_
        refine x0_getr 3 (by decide) Z Y q31 dX0_sweep_64 ?_
        refine lv_iload_n hx hb dX0_sweep_67 rfl (lv_at hl 2 rfl) ?_
        refine x0_ald 3 (by decide) (i := i) Z Y (tzat_nI (show _ < 8 by omega)) dX0_sweep_68 ?_
        refine lv_dup2_11 hx hb dX0_sweep_69 rfl rfl ?_
        refine x0_ald 8 (by decide) (i := tzix ((tzit xSh1 i (tzit xSl0 4 (tzit xSh0 n (xEvS u b)))) 3 i)) Z Y (w9.tn hi) dX0_sweep_70 ?_
        refine lv_aload_n hx hb dX0_sweep_71 rfl (lv_at hl 0 rfl) ?_
        refine x0_getr 4 (by decide) Z Y q32 dX0_sweep_72 ?_
        refine lv_iload_n hx hb dX0_sweep_75 rfl (lv_at hl 2 rfl) ?_
        refine x0_ald 4 (by decide) (i := i) Z Y (tzat_nI (show _ < 8 by omega)) dX0_sweep_76 ?_
        refine lv_iadd hx hb dX0_sweep_77 ?_
        refine x0_ast 8 (by decide) (i := tzix ((tzit xSh1 i (tzit xSl0 4 (tzit xSh0 n (xEvS u b)))) 3 i)) Z Y (w9.tn hi) dX0_sweep_78 (fun H locs Y => ?_)
        refine lv_iinc (v := nI (i + 1)) (lv' := [(2, .int (nI (i + 1))), (0, .ref (a 16)), (1, .int (nI b))]) hx hb dX0_sweep_79 hl (k := 2) rfl (tz_inc i) (by decide) rfl (fun ls hl => ?_)
        refine lv_goto (tgt := 51) hx hb dX0_sweep_82 (by decide) ?_
        have e9 : tzit xSh1 (i + 1) (tzit xSl0 4 (tzit xSh0 n (xEvS u b))) = tzst (tzit xSh1 i (tzit xSl0 4 (tzit xSh0 n (xEvS u b)))) 8 (tzix ((tzit xSh1 i (tzit xSl0 4 (tzit xSh0 n (xEvS u b)))) 3 i)) (((tzit xSh1 i (tzit xSl0 4 (tzit xSh0 n (xEvS u b)))) 8 (tzix ((tzit xSh1 i (tzit xSl0 4 (tzit xSh0 n (xEvS u b)))) 3 i))) + ((tzit xSh1 i (tzit xSl0 4 (tzit xSh0 n (xEvS u b)))) 4 i)) := by
          rw [tzit_s, xSh1, tzad] <;> rfl
        exact ih _ _ _ ⟨by rw [e9]; exact Y, lv_sub hl [1, 2, 0] rfl⟩
      · rintro H locs ls ⟨Y, hl⟩
        have w9 : tzWF (tzit xSh1 t (tzit xSl0 4 (tzit xSh0 n (xEvS u b)))) n t := hW.kp (xSwC_kp u b n t) (by decide)
        refine lv_iload_n hx hb dX0_sweep_51 rfl (lv_at hl 2 rfl) ?_
        refine lv_aload_n hx hb dX0_sweep_52 rfl (lv_at hl 0 rfl) ?_
        refine x0_geti 13 (by decide) Z Y q41 dX0_sweep_53 ?_
        refine tz_top (y := nI t) w9.2.2.1 ?_
        refine lv_icmp_ge (tgt := 85) hx hb dX0_sweep_56 (by decide) (fun _ => ?_) (fun c9 => absurd (Int32.le_refl _) c9)
        refine lv_aload_n hx hb dX0_sweep_85 rfl (lv_at hl 0 rfl) ?_
        refine x0_geti 12 (by decide) Z Y q40 dX0_sweep_86 ?_
        refine tz_top (y := nI n) w9.1 ?_
        refine lv_iconst (v := 1) hx hb dX0_sweep_89 (by decide) ?_
        refine lv_isub hx hb dX0_sweep_90 ?_
        refine lv_istore_n (lv' := [(2, .int ((nI n) - 1)), (0, .ref (a 16)), (1, .int (nI b))]) hx hb dX0_sweep_91 rfl hl (by decide) rfl (fun ls hl => ?_)
        refine tz_loopD (G := fun r H locs ls => ∃ z, tzY D A s.heap (wX0 a c z) H locs ∧ lv_has ls 3 [(0, .ref (a 16)), (1, .int (nI b)), (2, .int (nI r - 1))] ∧ tzdn xSw1 r z = tzdn xSw1 n (tzit xSh1 t (tzit xSl0 4 (tzit xSh0 n (xEvS u b)))) ∧ tzKp [7, 8, 10, 11, 15] u z) n ?_ ?_ ⟨_, Y, lv_sub hl [1, 2, 0] rfl, ⟨rfl, xSwC_kp u b n t⟩⟩
        · rintro r H locs ls hi ⟨z, Y, hl, ⟨h9, k9⟩⟩ ih
          rw [nI_pred] at hl
          have w9 : tzWF z n t := hW.kp k9 (by decide)
          refine lv_iload_n hx hb dX0_sweep_92 rfl (lv_at hl 2 rfl) ?_
          refine lv_if_lt (tgt := 116) hx hb dX0_sweep_93 (by decide) (fun c9 => absurd c9 (nI_pos (by omega))) (fun _ => ?_)
          refine lv_aload_n hx hb dX0_sweep_96 rfl (lv_at hl 0 rfl) ?_
          refine x0_getr 10 (by decide) Z Y q38 dX0_sweep_97 ?_
          refine lv_iload_n hx hb dX0_sweep_100 rfl (lv_at hl 2 rfl) ?_
          refine x0_zald (i := r) Z Y (tzat_nI (show _ < 24 by omega)) dX0_sweep_101 ?_
          refine lv_if_eq (tgt := 110) hx hb dX0_sweep_102 (by decide) (fun c_102 => ?_) (fun c_102 => ?_)
          · refine lv_iinc (v := (nI r) - 1) (lv' := [(2, .int ((nI r) - 1)), (0, .ref (a 16)), (1, .int (nI b))]) hx hb dX0_sweep_110 hl (k := 2) rfl (tz_dec _) (by decide) rfl (fun ls hl => ?_)
            refine lv_goto (tgt := 92) hx hb dX0_sweep_113 (by decide) ?_
            have e9 : xSw1 r z = z := by rw [xSw1, if_pos c_102] <;> rfl
            exact ih _ _ _ ⟨_, Y, lv_sub hl [1, 2, 0] rfl, by rw [← e9]; exact h9, by rw [← e9]; exact k9.tr (xSw1_kp r z)⟩
          · refine lv_aload_n hx hb dX0_sweep_105 rfl (lv_at hl 0 rfl) ?_
            refine lv_iload_n hx hb dX0_sweep_106 rfl (lv_at hl 2 rfl) ?_
            refine tz_cVv (ci := 0) (C := RX0) Z Y hA ⟨Nat.zero_le _, Nat.zero_le _⟩ (kX0_handOn l D a c z (nI r) rfl (by omega) (w9.nd hi)) rfl rfl (cwV 1 Z.1.2.2.2.2 (lw_V q176 q178 qs6 q18 q179) rfl rfl rfl (by decide +kernel) ⟨by decide, by decide⟩) rfl hl.1 rfl (Nat.le_of_ble_eq_true rfl) dX0_sweep_107 (fun H locs Y => ?_)
            refine lv_iinc (v := (nI r) - 1) (lv' := [(2, .int ((nI r) - 1)), (0, .ref (a 16)), (1, .int (nI b))]) hx hb dX0_sweep_110 hl (k := 2) rfl (tz_dec _) (by decide) rfl (fun ls hl => ?_)
            refine lv_goto (tgt := 92) hx hb dX0_sweep_113 (by decide) ?_
            have e9 : xSw1 r z = xHand r z := by rw [xSw1, if_neg c_102] <;> rfl
            exact ih _ _ _ ⟨_, Y, lv_sub hl [1, 2, 0] rfl, by rw [← e9]; exact h9, by rw [← e9]; exact k9.tr (xSw1_kp r z)⟩
        · rintro H locs ls ⟨z, Y, hl, ⟨h9, k9⟩⟩
          refine lv_iload_n hx hb dX0_sweep_92 rfl (lv_at hl 2 rfl) ?_
          refine lv_if_lt (tgt := 116) hx hb dX0_sweep_93 (by decide) (fun _ => ?_) (fun c9 => absurd (by decide +kernel) c9)
          exact tz_rv Z hr hlk Y dX0_sweep_116 (by rw [xSwp, hW.n, hW.t]; exact h9)
end
section
set_option maxRecDepth 100000
set_option maxHeartbeats 4000000 in
set_option maxRecDepth 100000 in
theorem kX0_valueOf (l : Launch) (D : va_G) (a : Nat → Nat) (c : Nat → ClassId) (u : tzS) (ch k : Int32) {n t : Nat} (hW : tzWF u n t) : tzMi l yX0_valueOf cX0_valueOf 4 .int (tzR 1) D (wX0 a c) (tX0 c) [.ref (a 16), .int ch, .int k] u ((xVal u ch k).1) ((xVal u ch k).2) := by
  refine tzMi.mk RX0 (by decide) rfl (Nat.le_of_ble_eq_true rfl) ?_
  intro p e s m below meth cd A ls Z hr hlk hA Y hl
  have hx := Z.1.1
  have hb := Z.1.2.1
  have hl : lv_has ls 4 [(0, .ref (a 16)), (1, .int ch), (2, .int k)] := hl
  have n24 : n ≤ 24 := hW.2.1
  have t8 : t ≤ 8 := hW.2.2.2.1
  refine lv_iload_n hx hb dX0_valueOf_0 rfl (lv_at hl 1 rfl) ?_
  refine tz_cSi Z Y hA ⟨Nat.zero_le _, Nat.zero_le _⟩ (kX0_isChain l D a c u ch) (va_cwS 1 Z.1.2.2.2.2 (lw_S q126 q127 q18 q128) rfl rfl rfl (by decide +kernel) ⟨by decide, by decide⟩) rfl hl.1 rfl (Nat.le_of_ble_eq_true rfl) dX0_valueOf_1 (fun H locs Y => ?_)
  refine lv_if_eq (tgt := 15) hx hb dX0_valueOf_4 (by decide) (fun c_4 => ?_) (fun c_4 => ?_)
  · refine lv_iconst (v := 0) hx hb dX0_valueOf_15 (by decide) ?_
    exact tz_ri Z hr hlk Y dX0_valueOf_16 (by rw [xVal, if_pos c_4] <;> rfl) (by rw [xVal, if_pos c_4] <;> rfl)
  · have h1 := tz_isC c_4
    refine lv_aload_n hx hb dX0_valueOf_7 rfl (lv_at hl 0 rfl) ?_
    refine lv_iload_n hx hb dX0_valueOf_8 rfl (lv_at hl 2 rfl) ?_
    refine tz_cVi (ci := 0) (C := RX0) Z Y hA ⟨Nat.zero_le _, Nat.zero_le _⟩ (kX0_isNode l D a c u k) rfl rfl (cwV 1 Z.1.2.2.2.2 (lw_V q98 q100 qs1 q18 q101) rfl rfl rfl (by decide +kernel) ⟨by decide, by decide⟩) rfl hl.1 rfl (Nat.le_of_ble_eq_true rfl) dX0_valueOf_9 (fun H locs Y => ?_)
    refine lv_if_ne (tgt := 17) hx hb dX0_valueOf_12 (by decide) (fun c_12 => ?_) (fun c_12 => ?_)
    · have hk := tz_isN hW.1 hW.2.1 c_12
      have hk2 := hk.2
      refine lv_iconst (v := nI 0) hx hb dX0_valueOf_17 (by decide) ?_
      refine lv_istore_n (lv' := [(3, .int (nI 0)), (0, .ref (a 16)), (1, .int ch), (2, .int k)]) hx hb dX0_valueOf_18 rfl hl (by decide) rfl (fun ls hl => ?_)
      refine tz_loop (G := fun i H locs ls => tzY D A s.heap (wX0 a c (tzit (xVal1 (4 * tzix ch)) i u)) H locs ∧ lv_has ls 4 [(0, .ref (a 16)), (1, .int ch), (2, .int k), (3, .int (nI i))]) (tzix k + 1) ?_ ?_ ⟨by rw [tzit_0]; exact Y, lv_sub hl [1, 2, 3, 0] rfl⟩
      · rintro i H locs ls hi ⟨Y, hl⟩ ih
        have w9 : tzWF (tzit (xVal1 (4 * tzix ch)) i u) n t := hW.kp (xValI_kp u _ i) (by decide)
        refine lv_iload_n hx hb dX0_valueOf_19 rfl (lv_at hl 3 rfl) ?_
        refine lv_iload_n hx hb dX0_valueOf_20 rfl (lv_at hl 2 rfl) ?_
        refine lv_icmp_gt (tgt := 44) hx hb dX0_valueOf_21 (by decide) (fun c9 => absurd c9 (tz_gtf hk hi (by omega))) (fun _ => ?_)
        refine lv_aload_n hx hb dX0_valueOf_24 rfl (lv_at hl 0 rfl) ?_
        refine x0_getr 7 (by decide) Z Y q35 dX0_valueOf_25 ?_
        refine lv_iload_n hx hb dX0_valueOf_28 rfl (lv_at hl 3 rfl) ?_
        refine lv_aload_n hx hb dX0_valueOf_29 rfl (lv_at hl 0 rfl) ?_
        refine lv_iload_n hx hb dX0_valueOf_30 rfl (lv_at hl 3 rfl) ?_
        refine lv_iconst (v := 4) hx hb dX0_valueOf_31 (by decide) ?_
        refine lv_iload_n hx hb dX0_valueOf_32 rfl (lv_at hl 1 rfl) ?_
        refine lv_imul hx hb dX0_valueOf_33 ?_
        refine tz_cVi (ci := 0) (C := RX0) Z Y hA ⟨Nat.zero_le _, Nat.zero_le _⟩ (kX0_computed l D a c (tzit (xVal1 (4 * tzix ch)) i u) (nI i) (4 * ch) rfl (tz_4b h1) (by omega) (tz_4le h1) (w9.nd (by omega))) rfl rfl (cwV 2 Z.1.2.2.2.2 (lw_V q149 q151 qs2 q18 q152) rfl rfl rfl (by decide +kernel) ⟨by decide, by decide⟩) rfl hl.1 rfl (Nat.le_of_ble_eq_true rfl) dX0_valueOf_34 (fun H locs Y => ?_)
        refine x0_ast 7 (by decide) (i := i) Z Y (tzat_nI (show _ < 24 by omega)) dX0_valueOf_37 (fun H locs Y => ?_)
        refine lv_iinc (v := nI (i + 1)) (lv' := [(3, .int (nI (i + 1))), (0, .ref (a 16)), (1, .int ch), (2, .int k)]) hx hb dX0_valueOf_38 hl (k := 3) rfl (tz_inc i) (by decide) rfl (fun ls hl => ?_)
        refine lv_goto (tgt := 19) hx hb dX0_valueOf_41 (by decide) ?_
        have e9 : tzit (xVal1 (4 * tzix ch)) (i + 1) u = tzst (tzit (xVal1 (4 * tzix ch)) i u) 7 i (xComp (tzit (xVal1 (4 * tzix ch)) i u) (4 * tzix ch) i) := by
          rw [tzit_s, xVal1] <;> rfl
        exact ih _ _ _ ⟨by rw [e9]; exact Y, lv_sub hl [1, 2, 3, 0] rfl⟩
      · rintro H locs ls ⟨Y, hl⟩
        refine lv_iload_n hx hb dX0_valueOf_19 rfl (lv_at hl 3 rfl) ?_
        refine lv_iload_n hx hb dX0_valueOf_20 rfl (lv_at hl 2 rfl) ?_
        refine lv_icmp_gt (tgt := 44) hx hb dX0_valueOf_21 (by decide) (fun _ => ?_) (fun c9 => absurd (tz_gtt hk (by omega)) c9)
        refine lv_aload_n hx hb dX0_valueOf_44 rfl (lv_at hl 0 rfl) ?_
        refine x0_getr 7 (by decide) Z Y q35 dX0_valueOf_45 ?_
        refine lv_iload_n hx hb dX0_valueOf_48 rfl (lv_at hl 2 rfl) ?_
        refine x0_ald 7 (by decide) (i := tzix k) Z Y (hk.le n24) dX0_valueOf_49 ?_
        exact tz_ri Z hr hlk Y dX0_valueOf_50 (by rw [xVal, if_neg c_4, if_neg c_12] <;> rfl) (by rw [xVal, if_neg c_4, if_neg c_12] <;> rfl)
    · refine lv_iconst (v := 0) hx hb dX0_valueOf_15 (by decide) ?_
      exact tz_ri Z hr hlk Y dX0_valueOf_16 (by rw [xVal, if_neg c_4, if_pos c_12] <;> rfl) (by rw [xVal, if_neg c_4, if_pos c_12] <;> rfl)
set_option maxHeartbeats 4000000 in
set_option maxRecDepth 100000 in
theorem kX0_target (l : Launch) (D : va_G) (a : Nat → Nat) (c : Nat → ClassId) (u : tzS) (ch : Int32) {n t : Nat} (hW : tzWF u n t) : tzMi l yX0_target cX0_target 2 .int (tzR 3) D (wX0 a c) (tX0 c) [.ref (a 16), .int ch] u ((xTgt u ch).1) ((xTgt u ch).2) := by
  refine tzMi.mk RX0 (by decide) rfl (Nat.le_of_ble_eq_true rfl) ?_
  intro p e s m below meth cd A ls Z hr hlk hA Y hl
  have hx := Z.1.1
  have hb := Z.1.2.1
  have hl : lv_has ls 2 [(0, .ref (a 16)), (1, .int ch)] := hl
  refine lv_iload_n hx hb dX0_target_0 rfl (lv_at hl 1 rfl) ?_
  refine tz_cSi Z Y hA ⟨Nat.zero_le _, Nat.zero_le _⟩ (kX0_isChain l D a c u ch) (va_cwS 1 Z.1.2.2.2.2 (lw_S q126 q127 q18 q128) rfl rfl rfl (by decide +kernel) ⟨by decide, by decide⟩) rfl hl.1 rfl (Nat.le_of_ble_eq_true rfl) dX0_target_1 (fun H locs Y => ?_)
  refine lv_if_ne (tgt := 9) hx hb dX0_target_4 (by decide) (fun c_4 => ?_) (fun c_4 => ?_)
  · have h1 := tz_isC c_4
    refine lv_aload_n hx hb dX0_target_9 rfl (lv_at hl 0 rfl) ?_
    refine lv_iconst (v := 4) hx hb dX0_target_10 (by decide) ?_
    refine lv_iload_n hx hb dX0_target_11 rfl (lv_at hl 1 rfl) ?_
    refine lv_imul hx hb dX0_target_12 ?_
    refine tz_cVi (ci := 0) (C := RX0) Z Y hA ⟨Nat.zero_le _, Nat.zero_le _⟩ (kX0_evaluate l D a c u (4 * ch) (tz_4b h1) (tz_4le h1) hW) rfl rfl (cwV 1 Z.1.2.2.2.2 (lw_V q157 q159 qs3 q18 q160) rfl rfl rfl (by decide +kernel) ⟨by decide, by decide⟩) rfl hl.1 rfl (Nat.le_of_ble_eq_true rfl) dX0_target_13 (fun H locs Y => ?_)
    exact tz_ri Z hr hlk Y dX0_target_16 (by rw [xTgt, if_neg c_4] <;> rfl) (by rw [xTgt, if_neg c_4] <;> rfl)
  · refine lv_iconst (v := 0) hx hb dX0_target_7 (by decide) ?_
    exact tz_ri Z hr hlk Y dX0_target_8 (by rw [xTgt, if_pos c_4] <;> rfl) (by rw [xTgt, if_pos c_4] <;> rfl)
set_option maxHeartbeats 4000000 in
set_option maxRecDepth 100000 in
theorem kX0_slope (l : Launch) (D : va_G) (a : Nat → Nat) (c : Nat → ClassId) (u : tzS) (ch j : Int32) {n t : Nat} (hW : tzWF u n t) : tzMi l yX0_slope cX0_slope 3 .int (tzR 4) D (wX0 a c) (tX0 c) [.ref (a 16), .int ch, .int j] u ((xSlope u ch j).1) ((xSlope u ch j).2) := by
  refine tzMi.mk RX0 (by decide) rfl (Nat.le_of_ble_eq_true rfl) ?_
  intro p e s m below meth cd A ls Z hr hlk hA Y hl
  have hx := Z.1.1
  have hb := Z.1.2.1
  have hl : lv_has ls 3 [(0, .ref (a 16)), (1, .int ch), (2, .int j)] := hl
  refine lv_iload_n hx hb dX0_slope_0 rfl (lv_at hl 1 rfl) ?_
  refine tz_cSi Z Y hA ⟨Nat.zero_le _, Nat.zero_le _⟩ (kX0_isChain l D a c u ch) (va_cwS 1 Z.1.2.2.2.2 (lw_S q126 q127 q18 q128) rfl rfl rfl (by decide +kernel) ⟨by decide, by decide⟩) rfl hl.1 rfl (Nat.le_of_ble_eq_true rfl) dX0_slope_1 (fun H locs Y => ?_)
  refine lv_if_eq (tgt := 14) hx hb dX0_slope_4 (by decide) (fun c_4 => ?_) (fun c_4 => ?_)
  · refine lv_iconst (v := 0) hx hb dX0_slope_14 (by decide) ?_
    exact tz_ri Z hr hlk Y dX0_slope_15 (by rw [xSlope, if_pos c_4] <;> rfl) (by rw [xSlope, if_pos c_4] <;> rfl)
  · have h1 := tz_isC c_4
    refine lv_iload_n hx hb dX0_slope_7 rfl (lv_at hl 2 rfl) ?_
    refine tz_cSi Z Y hA ⟨Nat.zero_le _, Nat.zero_le _⟩ (kX0_isParameter l D a c u j) (va_cwS 1 Z.1.2.2.2.2 (lw_S q83 q84 q18 q85) rfl rfl rfl (by decide +kernel) ⟨by decide, by decide⟩) rfl hl.1 rfl (Nat.le_of_ble_eq_true rfl) dX0_slope_8 (fun H locs Y => ?_)
    refine lv_if_ne (tgt := 16) hx hb dX0_slope_11 (by decide) (fun c_11 => ?_) (fun c_11 => ?_)
    · have h2 := tz_isP c_11
      refine lv_aload_n hx hb dX0_slope_16 rfl (lv_at hl 0 rfl) ?_
      refine lv_iconst (v := 4) hx hb dX0_slope_17 (by decide) ?_
      refine lv_iload_n hx hb dX0_slope_18 rfl (lv_at hl 1 rfl) ?_
      refine lv_imul hx hb dX0_slope_19 ?_
      refine tz_cVv (ci := 0) (C := RX0) Z Y hA ⟨Nat.zero_le _, Nat.zero_le _⟩ (kX0_sweep l D a c u (4 * ch) (tz_4b h1) (tz_4le h1) hW) rfl rfl (cwV 1 Z.1.2.2.2.2 (lw_V q172 q174 qs5 q18 q175) rfl rfl rfl (by decide +kernel) ⟨by decide, by decide⟩) rfl hl.1 rfl (Nat.le_of_ble_eq_true rfl) dX0_slope_20 (fun H locs Y => ?_)
      refine lv_aload_n hx hb dX0_slope_23 rfl (lv_at hl 0 rfl) ?_
      refine x0_getr 11 (by decide) Z Y q39 dX0_slope_24 ?_
      refine lv_iload_n hx hb dX0_slope_27 rfl (lv_at hl 2 rfl) ?_
      refine x0_ald 11 (by decide) (i := tzix j) Z Y h2 dX0_slope_28 ?_
      exact tz_ri Z hr hlk Y dX0_slope_29 (by rw [xSlope, if_neg c_4, if_neg c_11] <;> rfl) (by rw [xSlope, if_neg c_4, if_neg c_11] <;> rfl)
    · refine lv_iconst (v := 0) hx hb dX0_slope_14 (by decide) ?_
      exact tz_ri Z hr hlk Y dX0_slope_15 (by rw [xSlope, if_neg c_4, if_pos c_11] <;> rfl) (by rw [xSlope, if_neg c_4, if_pos c_11] <;> rfl)
set_option maxHeartbeats 4000000 in
set_option maxRecDepth 100000 in
theorem kX0_drift (l : Launch) (D : va_G) (a : Nat → Nat) (c : Nat → ClassId) (u : tzS) (ch : Int32) {n t : Nat} (hW : tzWF u n t) : tzMi l yX0_drift cX0_drift 5 .int (tzR 3) D (wX0 a c) (tX0 c) [.ref (a 16), .int ch] u ((xDrift u ch).1) ((xDrift u ch).2) := by
  refine tzMi.mk RX0 (by decide) rfl (Nat.le_of_ble_eq_true rfl) ?_
  intro p e s m below meth cd A ls Z hr hlk hA Y hl
  have hx := Z.1.1
  have hb := Z.1.2.1
  have hl : lv_has ls 5 [(0, .ref (a 16)), (1, .int ch)] := hl
  have n24 : n ≤ 24 := hW.2.1
  have t8 : t ≤ 8 := hW.2.2.2.1
  refine lv_iload_n hx hb dX0_drift_0 rfl (lv_at hl 1 rfl) ?_
  refine tz_cSi Z Y hA ⟨Nat.zero_le _, Nat.zero_le _⟩ (kX0_isChain l D a c u ch) (va_cwS 1 Z.1.2.2.2.2 (lw_S q126 q127 q18 q128) rfl rfl rfl (by decide +kernel) ⟨by decide, by decide⟩) rfl hl.1 rfl (Nat.le_of_ble_eq_true rfl) dX0_drift_1 (fun H locs Y => ?_)
  refine lv_if_ne (tgt := 9) hx hb dX0_drift_4 (by decide) (fun c_4 => ?_) (fun c_4 => ?_)
  · have h1 := tz_isC c_4
    refine lv_iconst (v := 4) hx hb dX0_drift_9 (by decide) ?_
    refine lv_iload_n hx hb dX0_drift_10 rfl (lv_at hl 1 rfl) ?_
    refine lv_imul hx hb dX0_drift_11 ?_
    refine lv_istore_n (lv' := [(2, .int (4 * ch)), (0, .ref (a 16)), (1, .int ch)]) hx hb dX0_drift_12 rfl hl (by decide) rfl (fun ls hl => ?_)
    refine lv_aload_n hx hb dX0_drift_13 rfl (lv_at hl 1 rfl) ?_
    refine lv_iload_n hx hb dX0_drift_14 rfl (lv_at hl 0 rfl) ?_
    refine tz_cVi (ci := 0) (C := RX0) Z Y hA ⟨Nat.zero_le _, Nat.zero_le _⟩ (kX0_evaluate l D a c u (4 * ch) (tz_4b h1) (tz_4le h1) hW) rfl rfl (cwV 1 Z.1.2.2.2.2 (lw_V q157 q159 qs3 q18 q160) rfl rfl rfl (by decide +kernel) ⟨by decide, by decide⟩) rfl hl.1 rfl (Nat.le_of_ble_eq_true rfl) dX0_drift_15 (fun H locs Y => ?_)
    refine lv_pop hx hb dX0_drift_18 rfl ?_
    refine lv_iconst (v := nI 0) hx hb dX0_drift_19 (by decide) ?_
    refine lv_istore_n (lv' := [(3, .int (nI 0)), (2, .int (4 * ch)), (0, .ref (a 16)), (1, .int ch)]) hx hb dX0_drift_20 rfl hl (by decide) rfl (fun ls hl => ?_)
    refine tz_loop (G := fun i H locs ls => tzY D A s.heap (wX0 a c (tzit (xDr1 (4 * tzix ch)) i (xEvS u (4 * tzix ch)))) H locs ∧ lv_has ls 5 [(0, .ref (a 16)), (1, .int ch), (2, .int (4 * ch)), (3, .int (nI i))]) n ?_ ?_ ⟨by rw [tzit_0]; exact Y, lv_sub hl [2, 3, 1, 0] rfl⟩
    · rintro i H locs ls hi ⟨Y, hl⟩ ih
      have w9 : tzWF (tzit (xDr1 (4 * tzix ch)) i (xEvS u (4 * tzix ch))) n t := hW.kp (xDrI_kp u _ i) (by decide)
      refine lv_iload_n hx hb dX0_drift_21 rfl (lv_at hl 3 rfl) ?_
      refine lv_aload_n hx hb dX0_drift_22 rfl (lv_at hl 0 rfl) ?_
      refine x0_geti 12 (by decide) Z Y q40 dX0_drift_23 ?_
      refine tz_top (y := nI n) w9.1 ?_
      refine lv_icmp_ge (tgt := 56) hx hb dX0_drift_26 (by decide) (fun c9 => absurd c9 (nI_ge hi (by omega))) (fun _ => ?_)
      refine lv_aload_n hx hb dX0_drift_29 rfl (lv_at hl 0 rfl) ?_
      refine x0_getr 10 (by decide) Z Y q38 dX0_drift_30 ?_
      refine lv_iload_n hx hb dX0_drift_33 rfl (lv_at hl 3 rfl) ?_
      refine x0_zald (i := i) Z Y (tzat_nI (show _ < 24 by omega)) dX0_drift_34 ?_
      refine lv_if_eq (tgt := 50) hx hb dX0_drift_35 (by decide) (fun c_35 => ?_) (fun c_35 => ?_)
      · refine lv_iinc (v := nI (i + 1)) (lv' := [(3, .int (nI (i + 1))), (0, .ref (a 16)), (1, .int ch), (2, .int (4 * ch))]) hx hb dX0_drift_50 hl (k := 3) rfl (tz_inc i) (by decide) rfl (fun ls hl => ?_)
        refine lv_goto (tgt := 21) hx hb dX0_drift_53 (by decide) ?_
        have e9 : tzit (xDr1 (4 * tzix ch)) (i + 1) (xEvS u (4 * tzix ch)) = tzit (xDr1 (4 * tzix ch)) i (xEvS u (4 * tzix ch)) := by
          rw [tzit_s, xDr1, if_pos c_35] <;> rfl
        exact ih _ _ _ ⟨by rw [e9]; exact Y, lv_sub hl [1, 2, 3, 0] rfl⟩
      · refine lv_aload_n hx hb dX0_drift_38 rfl (lv_at hl 0 rfl) ?_
        refine x0_getr 9 (by decide) Z Y q37 dX0_drift_39 ?_
        refine lv_iload_n hx hb dX0_drift_42 rfl (lv_at hl 3 rfl) ?_
        refine lv_aload_n hx hb dX0_drift_43 rfl (lv_at hl 0 rfl) ?_
        refine lv_iload_n hx hb dX0_drift_44 rfl (lv_at hl 3 rfl) ?_
        refine lv_iload_n hx hb dX0_drift_45 rfl (lv_at hl 2 rfl) ?_
        refine tz_cVi (ci := 0) (C := RX0) Z Y hA ⟨Nat.zero_le _, Nat.zero_le _⟩ (kX0_changed l D a c (tzit (xDr1 (4 * tzix ch)) i (xEvS u (4 * tzix ch))) (nI i) (4 * ch) rfl (tz_4b h1) (by omega) (tz_4le h1) (w9.nd hi)) rfl rfl (cwV 2 Z.1.2.2.2.2 (lw_V q184 q186 qs7 q18 q187) rfl rfl rfl (by decide +kernel) ⟨by decide, by decide⟩) rfl hl.1 rfl (Nat.le_of_ble_eq_true rfl) dX0_drift_46 (fun H locs Y => ?_)
        refine x0_ast 9 (by decide) (i := i) Z Y (tzat_nI (show _ < 24 by omega)) dX0_drift_49 (fun H locs Y => ?_)
        refine lv_iinc (v := nI (i + 1)) (lv' := [(3, .int (nI (i + 1))), (0, .ref (a 16)), (1, .int ch), (2, .int (4 * ch))]) hx hb dX0_drift_50 hl (k := 3) rfl (tz_inc i) (by decide) rfl (fun ls hl => ?_)
        refine lv_goto (tgt := 21) hx hb dX0_drift_53 (by decide) ?_
        have e9 : tzit (xDr1 (4 * tzix ch)) (i + 1) (xEvS u (4 * tzix ch)) = tzst (tzit (xDr1 (4 * tzix ch)) i (xEvS u (4 * tzix ch))) 9 i (xChg (tzit (xDr1 (4 * tzix ch)) i (xEvS u (4 * tzix ch))) (4 * tzix ch) i) := by
          rw [tzit_s, xDr1, if_neg c_35] <;> rfl
        exact ih _ _ _ ⟨by rw [e9]; exact Y, lv_sub hl [1, 2, 3, 0] rfl⟩
    · rintro H locs ls ⟨Y, hl⟩
      have w9 : tzWF (tzit (xDr1 (4 * tzix ch)) n (xEvS u (4 * tzix ch))) n t := hW.kp (xDrI_kp u _ n) (by decide)
      refine lv_iload_n hx hb dX0_drift_21 rfl (lv_at hl 3 rfl) ?_
      refine lv_aload_n hx hb dX0_drift_22 rfl (lv_at hl 0 rfl) ?_
      refine x0_geti 12 (by decide) Z Y q40 dX0_drift_23 ?_
      refine tz_top (y := nI n) w9.1 ?_
      refine lv_icmp_ge (tgt := 56) hx hb dX0_drift_26 (by decide) (fun _ => ?_) (fun c9 => absurd (Int32.le_refl _) c9)
      obtain ⟨z, ez⟩ : ∃ z, z = tzit (xDr1 (4 * tzix ch)) n (xEvS u (4 * tzix ch)) := ⟨_, rfl⟩
      rw [← ez] at Y
      have w9 : tzWF z n t := by rw [ez]; exact w9
      refine lv_iconst (v := 0) hx hb dX0_drift_56 (by decide) ?_
      refine lv_istore_n (lv' := [(3, .int 0), (0, .ref (a 16)), (1, .int ch), (2, .int (4 * ch))]) hx hb dX0_drift_57 rfl hl (by decide) rfl (fun ls hl => ?_)
      refine lv_iconst (v := nI 0) hx hb dX0_drift_58 (by decide) ?_
      refine lv_istore (lv' := [(4, .int (nI 0)), (3, .int 0), (0, .ref (a 16)), (1, .int ch), (2, .int (4 * ch))]) hx hb dX0_drift_59 hl (by decide) rfl (fun ls hl => ?_)
      refine tz_loop (G := fun i H locs ls => tzY D A s.heap (wX0 a c z) H locs ∧ lv_has ls 5 [(0, .ref (a 16)), (3, .int (tzsm (fun t => z 4 t * z 9 (tzix (z 3 t))) i)), (4, .int (nI i))]) t ?_ ?_ ⟨Y, lv_sub hl [2, 1, 0] rfl⟩
      · rintro i H locs ls hi ⟨Y, hl⟩ ih
        refine lv_iload hx hb dX0_drift_61 (lv_at hl 2 rfl) ?_
        refine lv_aload_n hx hb dX0_drift_63 rfl (lv_at hl 0 rfl) ?_
        refine x0_geti 13 (by decide) Z Y q41 dX0_drift_64 ?_
        refine tz_top (y := nI t) w9.2.2.1 ?_
        refine lv_icmp_ge (tgt := 99) hx hb dX0_drift_67 (by decide) (fun c9 => absurd c9 (nI_ge hi (by omega))) (fun _ => ?_)
        refine lv_iload_n hx hb dX0_drift_70 rfl (lv_at hl 1 rfl) ?_
        refine lv_aload_n hx hb dX0_drift_71 rfl (lv_at hl 0 rfl) ?_
        refine x0_getr 4 (by decide) Z Y q32 dX0_drift_72 ?_
        refine lv_iload hx hb dX0_drift_75 (lv_at hl 2 rfl) ?_
        refine x0_ald 4 (by decide) (i := i) Z Y (tzat_nI (show _ < 8 by omega)) dX0_drift_77 ?_
        refine lv_aload_n hx hb dX0_drift_78 rfl (lv_at hl 0 rfl) ?_
        refine x0_getr 9 (by decide) Z Y q37 dX0_drift_79 ?_
        refine lv_aload_n hx hb dX0_drift_82 rfl (lv_at hl 0 rfl) ?_
        refine x0_getr 3 (by decide) Z Y q31 dX0_drift_83 ?_
        refine lv_iload hx hb dX0_drift_86 (lv_at hl 2 rfl) ?_
        refine x0_ald 3 (by decide) (i := i) Z Y (tzat_nI (show _ < 8 by omega)) dX0_drift_88 ?_
        refine x0_ald 9 (by decide) (i := tzix (z 3 i)) Z Y (w9.tn hi) dX0_drift_89 ?_
        refine lv_imul hx hb dX0_drift_90 ?_
        refine lv_iadd hx hb dX0_drift_91 ?_
        refine lv_istore_n (lv' := [(3, .int ((tzsm (fun t => z 4 t * z 9 (tzix (z 3 t))) i) + ((z 4 i) * (z 9 (tzix (z 3 i)))))), (0, .ref (a 16)), (4, .int (nI i))]) hx hb dX0_drift_92 rfl hl (by decide) rfl (fun ls hl => ?_)
        refine lv_iinc (v := nI (i + 1)) (lv' := [(4, .int (nI (i + 1))), (3, .int ((tzsm (fun t => z 4 t * z 9 (tzix (z 3 t))) i) + ((z 4 i) * (z 9 (tzix (z 3 i)))))), (0, .ref (a 16))]) hx hb dX0_drift_93 hl (k := 2) rfl (tz_inc i) (by decide) rfl (fun ls hl => ?_)
        refine lv_goto (tgt := 61) hx hb dX0_drift_96 (by decide) ?_
        exact ih _ _ _ ⟨Y, lv_sub hl [2, 1, 0] rfl⟩
      · rintro H locs ls ⟨Y, hl⟩
        refine lv_iload hx hb dX0_drift_61 (lv_at hl 2 rfl) ?_
        refine lv_aload_n hx hb dX0_drift_63 rfl (lv_at hl 0 rfl) ?_
        refine x0_geti 13 (by decide) Z Y q41 dX0_drift_64 ?_
        refine tz_top (y := nI t) w9.2.2.1 ?_
        refine lv_icmp_ge (tgt := 99) hx hb dX0_drift_67 (by decide) (fun _ => ?_) (fun c9 => absurd (Int32.le_refl _) c9)
        refine lv_iload_n hx hb dX0_drift_99 rfl (lv_at hl 1 rfl) ?_
        exact tz_ri Z hr hlk Y dX0_drift_100 (by rw [xDrift, if_neg c_4]; show _ = xDrR (xDrS u _); rw [xDrR, xDrS, hW.n, ← ez, w9.t]) (by rw [xDrift, if_neg c_4]; show _ = xDrS u _; rw [xDrS, hW.n, ez])
  · refine lv_iconst (v := 0) hx hb dX0_drift_7 (by decide) ?_
    exact tz_ri Z hr hlk Y dX0_drift_8 (by rw [xDrift, if_pos c_4] <;> rfl) (by rw [xDrift, if_pos c_4] <;> rfl)
set_option maxHeartbeats 4000000 in
set_option maxRecDepth 100000 in
theorem kX0_targetAt (l : Launch) (D : va_G) (a : Nat → Nat) (c : Nat → ClassId) (u : tzS) (ch j x : Int32) {n t : Nat} (hW : tzWF u n t) : tzMi l yX0_targetAt cX0_targetAt 7 .int (tzR 3) D (wX0 a c) (tX0 c) [.ref (a 16), .int ch, .int j, .int x] u ((xTat u ch j x).1) ((xTat u ch j x).2) := by
  refine tzMi.mk RX0 (by decide) rfl (Nat.le_of_ble_eq_true rfl) ?_
  intro p e s m below meth cd A ls Z hr hlk hA Y hl
  have hx := Z.1.1
  have hb := Z.1.2.1
  have hl : lv_has ls 7 [(0, .ref (a 16)), (1, .int ch), (2, .int j), (3, .int x)] := hl
  refine lv_iload_n hx hb dX0_targetAt_0 rfl (lv_at hl 1 rfl) ?_
  refine tz_cSi Z Y hA ⟨Nat.zero_le _, Nat.zero_le _⟩ (kX0_isChain l D a c u ch) (va_cwS 1 Z.1.2.2.2.2 (lw_S q126 q127 q18 q128) rfl rfl rfl (by decide +kernel) ⟨by decide, by decide⟩) rfl hl.1 rfl (Nat.le_of_ble_eq_true rfl) dX0_targetAt_1 (fun H locs Y => ?_)
  refine lv_if_eq (tgt := 14) hx hb dX0_targetAt_4 (by decide) (fun c_4 => ?_) (fun c_4 => ?_)
  · refine lv_iconst (v := 0) hx hb dX0_targetAt_14 (by decide) ?_
    exact tz_ri Z hr hlk Y dX0_targetAt_15 (by rw [xTat, if_pos c_4] <;> rfl) (by rw [xTat, if_pos c_4] <;> rfl)
  · have h1 := tz_isC c_4
    refine lv_iload_n hx hb dX0_targetAt_7 rfl (lv_at hl 2 rfl) ?_
    refine tz_cSi Z Y hA ⟨Nat.zero_le _, Nat.zero_le _⟩ (kX0_isParameter l D a c u j) (va_cwS 1 Z.1.2.2.2.2 (lw_S q83 q84 q18 q85) rfl rfl rfl (by decide +kernel) ⟨by decide, by decide⟩) rfl hl.1 rfl (Nat.le_of_ble_eq_true rfl) dX0_targetAt_8 (fun H locs Y => ?_)
    refine lv_if_ne (tgt := 16) hx hb dX0_targetAt_11 (by decide) (fun c_11 => ?_) (fun c_11 => ?_)
    · have h2 := tz_isP c_11
      refine lv_iconst (v := 4) hx hb dX0_targetAt_16 (by decide) ?_
      refine lv_iload_n hx hb dX0_targetAt_17 rfl (lv_at hl 1 rfl) ?_
      refine lv_imul hx hb dX0_targetAt_18 ?_
      refine lv_iload_n hx hb dX0_targetAt_19 rfl (lv_at hl 2 rfl) ?_
      refine lv_iadd hx hb dX0_targetAt_20 ?_
      refine lv_istore (lv' := [(4, .int ((4 * ch) + j)), (0, .ref (a 16)), (1, .int ch), (2, .int j), (3, .int x)]) hx hb dX0_targetAt_21 hl (by decide) rfl (fun ls hl => ?_)
      refine lv_aload_n hx hb dX0_targetAt_23 rfl (lv_at hl 1 rfl) ?_
      refine x0_getr 5 (by decide) Z Y q33 dX0_targetAt_24 ?_
      refine lv_iload hx hb dX0_targetAt_27 (lv_at hl 0 rfl) ?_
      refine x0_ald 5 (by decide) (i := 4 * tzix ch + tzix j) Z Y (tz_4 h1 h2) dX0_targetAt_29 ?_
      refine lv_istore (lv' := [(5, .int (u 5 (4 * tzix ch + tzix j))), (4, .int ((4 * ch) + j)), (0, .ref (a 16)), (1, .int ch), (2, .int j), (3, .int x)]) hx hb dX0_targetAt_30 hl (by decide) rfl (fun ls hl => ?_)
      refine lv_aload_n hx hb dX0_targetAt_32 rfl (lv_at hl 2 rfl) ?_
      refine x0_getr 5 (by decide) Z Y q33 dX0_targetAt_33 ?_
      refine lv_iload hx hb dX0_targetAt_36 (lv_at hl 1 rfl) ?_
      refine lv_iload_n hx hb dX0_targetAt_38 rfl (lv_at hl 5 rfl) ?_
      refine x0_ast 5 (by decide) (i := 4 * tzix ch + tzix j) Z Y (tz_4 h1 h2) dX0_targetAt_39 (fun H locs Y => ?_)
      refine lv_aload_n hx hb dX0_targetAt_40 rfl (lv_at hl 2 rfl) ?_
      refine lv_iconst (v := 4) hx hb dX0_targetAt_41 (by decide) ?_
      refine lv_iload_n hx hb dX0_targetAt_42 rfl (lv_at hl 3 rfl) ?_
      refine lv_imul hx hb dX0_targetAt_43 ?_
      refine tz_cVi (ci := 0) (C := RX0) Z Y hA ⟨Nat.zero_le _, Nat.zero_le _⟩ (kX0_evaluate l D a c (tzst u 5 (4 * tzix ch + tzix j) x) (4 * ch) (tz_4b h1) (tz_4le h1) (hW.kp (tzKp.rf.st (S := [5]) (by decide)) (by decide))) rfl rfl (cwV 1 Z.1.2.2.2.2 (lw_V q157 q159 qs3 q18 q160) rfl rfl rfl (by decide +kernel) ⟨by decide, by decide⟩) rfl hl.1 rfl (Nat.le_of_ble_eq_true rfl) dX0_targetAt_44 (fun H locs Y => ?_)
      refine lv_istore (lv' := [(6, .int (xEvR (xEvS (tzst u 5 (4 * tzix ch + tzix j) x) (4 * tzix ch)))), (5, .int (u 5 (4 * tzix ch + tzix j))), (4, .int ((4 * ch) + j)), (0, .ref (a 16)), (1, .int ch), (2, .int j), (3, .int x)]) hx hb dX0_targetAt_47 hl (by decide) rfl (fun ls hl => ?_)
      refine lv_aload_n hx hb dX0_targetAt_49 rfl (lv_at hl 3 rfl) ?_
      refine x0_getr 5 (by decide) Z Y q33 dX0_targetAt_50 ?_
      refine lv_iload hx hb dX0_targetAt_53 (lv_at hl 2 rfl) ?_
      refine lv_iload hx hb dX0_targetAt_55 (lv_at hl 1 rfl) ?_
      refine x0_ast 5 (by decide) (i := 4 * tzix ch + tzix j) Z Y (tz_4 h1 h2) dX0_targetAt_57 (fun H locs Y => ?_)
      refine lv_iload hx hb dX0_targetAt_58 (lv_at hl 0 rfl) ?_
      exact tz_ri Z hr hlk Y dX0_targetAt_60 (by rw [xTat, if_neg c_4, if_neg c_11] <;> rfl) (by rw [xTat, if_neg c_4, if_neg c_11] <;> rfl)
    · refine lv_iconst (v := 0) hx hb dX0_targetAt_14 (by decide) ?_
      exact tz_ri Z hr hlk Y dX0_targetAt_15 (by rw [xTat, if_neg c_4, if_pos c_11] <;> rfl) (by rw [xTat, if_neg c_4, if_pos c_11] <;> rfl)
set_option maxHeartbeats 4000000 in
set_option maxRecDepth 100000 in
theorem kX0_leap (l : Launch) (D : va_G) (a : Nat → Nat) (c : Nat → ClassId) (u : tzS) (ch x : Int32) {n t : Nat} (hW : tzWF u n t) : tzMi l yX0_leap cX0_leap 6 .int (tzR 4) D (wX0 a c) (tX0 c) [.ref (a 16), .int ch, .int x] u ((xLeap u ch x).1) ((xLeap u ch x).2) := by
  refine tzMi.mk RX0 (by decide) rfl (Nat.le_of_ble_eq_true rfl) ?_
  intro p e s m below meth cd A ls Z hr hlk hA Y hl
  have hx := Z.1.1
  have hb := Z.1.2.1
  have hl : lv_has ls 6 [(0, .ref (a 16)), (1, .int ch), (2, .int x)] := hl
  have n24 : n ≤ 24 := hW.2.1
  have t8 : t ≤ 8 := hW.2.2.2.1
  refine lv_iload_n hx hb dX0_leap_0 rfl (lv_at hl 1 rfl) ?_
  refine tz_cSi Z Y hA ⟨Nat.zero_le _, Nat.zero_le _⟩ (kX0_isChain l D a c u ch) (va_cwS 1 Z.1.2.2.2.2 (lw_S q126 q127 q18 q128) rfl rfl rfl (by decide +kernel) ⟨by decide, by decide⟩) rfl hl.1 rfl (Nat.le_of_ble_eq_true rfl) dX0_leap_1 (fun H locs Y => ?_)
  refine lv_if_ne (tgt := 9) hx hb dX0_leap_4 (by decide) (fun c_4 => ?_) (fun c_4 => ?_)
  · have h1 := tz_isC c_4
    refine lv_iload_n hx hb dX0_leap_9 rfl (lv_at hl 2 rfl) ?_
    refine lv_if_lt (tgt := 19) hx hb dX0_leap_10 (by decide) (fun c_10 => ?_) (fun c_10 => ?_)
    · refine lv_bipush (v := (-2)) hx hb dX0_leap_19 (by decide) ?_
      exact tz_ri Z hr hlk Y dX0_leap_21 (by rw [xLeap, if_neg c_4, if_pos c_10] <;> rfl) (by rw [xLeap, if_neg c_4, if_pos c_10] <;> rfl)
    · refine lv_iload_n hx hb dX0_leap_13 rfl (lv_at hl 2 rfl) ?_
      refine lv_bipush (v := 40) hx hb dX0_leap_14 (by decide) ?_
      refine lv_icmp_le (tgt := 22) hx hb dX0_leap_16 (by decide) (fun c_16 => ?_) (fun c_16 => ?_)
      · have hs := tz_40 c_10 c_16
        refine lv_iconst (v := 4) hx hb dX0_leap_22 (by decide) ?_
        refine lv_iload_n hx hb dX0_leap_23 rfl (lv_at hl 1 rfl) ?_
        refine lv_imul hx hb dX0_leap_24 ?_
        refine lv_istore_n (lv' := [(3, .int (4 * ch)), (0, .ref (a 16)), (1, .int ch), (2, .int x)]) hx hb dX0_leap_25 rfl hl (by decide) rfl (fun ls hl => ?_)
        refine lv_aload_n hx hb dX0_leap_26 rfl (lv_at hl 1 rfl) ?_
        refine lv_iload_n hx hb dX0_leap_27 rfl (lv_at hl 0 rfl) ?_
        refine tz_cVv (ci := 0) (C := RX0) Z Y hA ⟨Nat.zero_le _, Nat.zero_le _⟩ (kX0_sweep l D a c u (4 * ch) (tz_4b h1) (tz_4le h1) hW) rfl rfl (cwV 1 Z.1.2.2.2.2 (lw_V q172 q174 qs5 q18 q175) rfl rfl rfl (by decide +kernel) ⟨by decide, by decide⟩) rfl hl.1 rfl (Nat.le_of_ble_eq_true rfl) dX0_leap_28 (fun H locs Y => ?_)
        refine lv_iconst (v := nI 0) hx hb dX0_leap_31 (by decide) ?_
        refine lv_istore (lv' := [(4, .int (nI 0)), (3, .int (4 * ch)), (0, .ref (a 16)), (1, .int ch), (2, .int x)]) hx hb dX0_leap_32 hl (by decide) rfl (fun ls hl => ?_)
        refine tz_loop (G := fun i H locs ls => tzY D A s.heap (wX0 a c (tzit (xLp1 (4 * tzix ch)) i (xSwp u (4 * tzix ch)))) H locs ∧ lv_has ls 6 [(0, .ref (a 16)), (1, .int ch), (2, .int x), (3, .int (4 * ch)), (4, .int (nI i))]) (tzix x) ?_ ?_ ⟨by rw [tzit_0]; exact Y, lv_sub hl [2, 3, 4, 1, 0] rfl⟩
        · rintro i H locs ls hi2 ⟨Y, hl⟩ ih
          refine lv_iload hx hb dX0_leap_34 (lv_at hl 4 rfl) ?_
          refine lv_iload_n hx hb dX0_leap_36 rfl (lv_at hl 2 rfl) ?_
          refine lv_icmp_ge (tgt := 97) hx hb dX0_leap_37 (by decide) (fun c9 => absurd c9 (tz_gef hs hi2 (by decide))) (fun _ => ?_)
          refine lv_aload_n hx hb dX0_leap_40 rfl (lv_at hl 0 rfl) ?_
          refine lv_iload_n hx hb dX0_leap_41 rfl (lv_at hl 3 rfl) ?_
          refine tz_cVv (ci := 0) (C := RX0) Z Y hA ⟨Nat.zero_le _, Nat.zero_le _⟩ (kX0_kick l D a c (tzit (xLp1 (4 * tzix ch)) i (xSwp u (4 * tzix ch))) (4 * ch) (tz_4b h1) (tz_4le h1)) rfl rfl (cwV 1 Z.1.2.2.2.2 (lw_V q196 q198 qs8 q18 q199) rfl rfl rfl (by decide +kernel) ⟨by decide, by decide⟩) rfl hl.1 rfl (Nat.le_of_ble_eq_true rfl) dX0_leap_42 (fun H locs Y => ?_)
          refine lv_iconst (v := nI 0) hx hb dX0_leap_45 (by decide) ?_
          refine lv_istore (lv' := [(5, .int (nI 0)), (0, .ref (a 16)), (1, .int ch), (2, .int x), (3, .int (4 * ch)), (4, .int (nI i))]) hx hb dX0_leap_46 hl (by decide) rfl (fun ls hl => ?_)
          refine tz_loop (G := fun q H locs ls => tzY D A s.heap (wX0 a c (tzit (xMv1 (4 * tzix ch)) q (xKick (tzit (xLp1 (4 * tzix ch)) i (xSwp u (4 * tzix ch))) (4 * tzix ch)))) H locs ∧ lv_has ls 6 [(0, .ref (a 16)), (1, .int ch), (2, .int x), (3, .int (4 * ch)), (4, .int (nI i)), (5, .int (nI q))]) 4 ?_ ?_ ⟨by rw [tzit_0]; exact Y, lv_sub hl [1, 2, 3, 4, 5, 0] rfl⟩
          · rintro q H locs ls hi ⟨Y, hl⟩ ih
            refine lv_iload hx hb dX0_leap_48 (lv_at hl 5 rfl) ?_
            refine lv_iconst (v := nI 4) hx hb dX0_leap_50 (by decide) ?_
            refine lv_icmp_ge (tgt := 81) hx hb dX0_leap_51 (by decide) (fun c9 => absurd c9 (nI_ge hi (by omega))) (fun _ => ?_)
            refine lv_aload_n hx hb dX0_leap_54 rfl (lv_at hl 0 rfl) ?_
            refine x0_getr 5 (by decide) Z Y q33 dX0_leap_55 ?_
            refine lv_iload_n hx hb dX0_leap_58 rfl (lv_at hl 3 rfl) ?_
            refine lv_iload hx hb dX0_leap_59 (lv_at hl 5 rfl) ?_
            refine lv_iadd hx hb dX0_leap_61 ?_
            refine lv_dup2_11 hx hb dX0_leap_62 rfl rfl ?_
            refine x0_ald 5 (by decide) (i := (4 * tzix ch) + q) Z Y (tz_b (tz_4b h1) (tz_4le h1) (tzat_nI hi)) dX0_leap_63 ?_
            refine lv_aload_n hx hb dX0_leap_64 rfl (lv_at hl 0 rfl) ?_
            refine x0_getr 6 (by decide) Z Y q34 dX0_leap_65 ?_
            refine lv_iload_n hx hb dX0_leap_68 rfl (lv_at hl 3 rfl) ?_
            refine lv_iload hx hb dX0_leap_69 (lv_at hl 5 rfl) ?_
            refine lv_iadd hx hb dX0_leap_71 ?_
            refine x0_ald 6 (by decide) (i := (4 * tzix ch) + q) Z Y (tz_b (tz_4b h1) (tz_4le h1) (tzat_nI hi)) dX0_leap_72 ?_
            refine lv_iadd hx hb dX0_leap_73 ?_
            refine x0_ast 5 (by decide) (i := (4 * tzix ch) + q) Z Y (tz_b (tz_4b h1) (tz_4le h1) (tzat_nI hi)) dX0_leap_74 (fun H locs Y => ?_)
            refine lv_iinc (v := nI (q + 1)) (lv' := [(5, .int (nI (q + 1))), (0, .ref (a 16)), (1, .int ch), (2, .int x), (3, .int (4 * ch)), (4, .int (nI i))]) hx hb dX0_leap_75 hl (k := 5) rfl (tz_inc q) (by decide) rfl (fun ls hl => ?_)
            refine lv_goto (tgt := 48) hx hb dX0_leap_78 (by decide) ?_
            have e9 : tzit (xMv1 (4 * tzix ch)) (q + 1) (xKick (tzit (xLp1 (4 * tzix ch)) i (xSwp u (4 * tzix ch))) (4 * tzix ch)) = tzst (tzit (xMv1 (4 * tzix ch)) q (xKick (tzit (xLp1 (4 * tzix ch)) i (xSwp u (4 * tzix ch))) (4 * tzix ch))) 5 ((4 * tzix ch) + q) (((tzit (xMv1 (4 * tzix ch)) q (xKick (tzit (xLp1 (4 * tzix ch)) i (xSwp u (4 * tzix ch))) (4 * tzix ch))) 5 ((4 * tzix ch) + q)) + ((tzit (xMv1 (4 * tzix ch)) q (xKick (tzit (xLp1 (4 * tzix ch)) i (xSwp u (4 * tzix ch))) (4 * tzix ch))) 6 ((4 * tzix ch) + q))) := by
              rw [tzit_s, xMv1, tzad] <;> rfl
            exact ih _ _ _ ⟨by rw [e9]; exact Y, lv_sub hl [1, 2, 3, 4, 5, 0] rfl⟩
          · rintro H locs ls ⟨Y, hl⟩
            refine lv_iload hx hb dX0_leap_48 (lv_at hl 5 rfl) ?_
            refine lv_iconst (v := nI 4) hx hb dX0_leap_50 (by decide) ?_
            refine lv_icmp_ge (tgt := 81) hx hb dX0_leap_51 (by decide) (fun _ => ?_) (fun c9 => absurd (Int32.le_refl _) c9)
            refine lv_aload_n hx hb dX0_leap_81 rfl (lv_at hl 0 rfl) ?_
            refine lv_iload_n hx hb dX0_leap_82 rfl (lv_at hl 3 rfl) ?_
            refine tz_cVv (ci := 0) (C := RX0) Z Y hA ⟨Nat.zero_le _, Nat.zero_le _⟩ (kX0_sweep l D a c (tzit (xMv1 (4 * tzix ch)) 4 (xKick (tzit (xLp1 (4 * tzix ch)) i (xSwp u (4 * tzix ch))) (4 * tzix ch))) (4 * ch) (tz_4b h1) (tz_4le h1) ((hW.kp (xLpI_kp u _ i) (by decide)).kp ((((xKick_kp _ _).mono (S' := [5, 6]) (by decide)).tr ((xMvI_kp _ _ 4).mono (by decide)))) (by decide))) rfl rfl (cwV 1 Z.1.2.2.2.2 (lw_V q172 q174 qs5 q18 q175) rfl rfl rfl (by decide +kernel) ⟨by decide, by decide⟩) rfl hl.1 rfl (Nat.le_of_ble_eq_true rfl) dX0_leap_83 (fun H locs Y => ?_)
            refine lv_aload_n hx hb dX0_leap_86 rfl (lv_at hl 0 rfl) ?_
            refine lv_iload_n hx hb dX0_leap_87 rfl (lv_at hl 3 rfl) ?_
            refine tz_cVv (ci := 0) (C := RX0) Z Y hA ⟨Nat.zero_le _, Nat.zero_le _⟩ (kX0_kick l D a c (xSwp (tzit (xMv1 (4 * tzix ch)) 4 (xKick (tzit (xLp1 (4 * tzix ch)) i (xSwp u (4 * tzix ch))) (4 * tzix ch))) (4 * tzix ch)) (4 * ch) (tz_4b h1) (tz_4le h1)) rfl rfl (cwV 1 Z.1.2.2.2.2 (lw_V q196 q198 qs8 q18 q199) rfl rfl rfl (by decide +kernel) ⟨by decide, by decide⟩) rfl hl.1 rfl (Nat.le_of_ble_eq_true rfl) dX0_leap_88 (fun H locs Y => ?_)
            refine lv_iinc (v := nI (i + 1)) (lv' := [(4, .int (nI (i + 1))), (0, .ref (a 16)), (1, .int ch), (2, .int x), (3, .int (4 * ch)), (5, .int (nI 4))]) hx hb dX0_leap_91 hl (k := 4) rfl (tz_inc i) (by decide) rfl (fun ls hl => ?_)
            refine lv_goto (tgt := 34) hx hb dX0_leap_94 (by decide) ?_
            have e9 : tzit (xLp1 (4 * tzix ch)) (i + 1) (xSwp u (4 * tzix ch)) = xKick (xSwp (tzit (xMv1 (4 * tzix ch)) 4 (xKick (tzit (xLp1 (4 * tzix ch)) i (xSwp u (4 * tzix ch))) (4 * tzix ch))) (4 * tzix ch)) (4 * tzix ch) := by
              rw [tzit_s, xLp1]
            exact ih _ _ _ ⟨by rw [e9]; exact Y, lv_sub hl [1, 2, 3, 4, 0] rfl⟩
        · rintro H locs ls ⟨Y, hl⟩
          refine lv_iload hx hb dX0_leap_34 (lv_at hl 4 rfl) ?_
          refine lv_iload_n hx hb dX0_leap_36 rfl (lv_at hl 2 rfl) ?_
          refine lv_icmp_ge (tgt := 97) hx hb dX0_leap_37 (by decide) (fun _ => ?_) (fun c9 => absurd (tz_get hs) c9)
          refine lv_aload_n hx hb dX0_leap_97 rfl (lv_at hl 0 rfl) ?_
          refine lv_iload_n hx hb dX0_leap_98 rfl (lv_at hl 3 rfl) ?_
          refine tz_cVi (ci := 0) (C := RX0) Z Y hA ⟨Nat.zero_le _, Nat.zero_le _⟩ (kX0_evaluate l D a c (tzit (xLp1 (4 * tzix ch)) (tzix x) (xSwp u (4 * tzix ch))) (4 * ch) (tz_4b h1) (tz_4le h1) (hW.kp (xLpI_kp u _ _) (by decide))) rfl rfl (cwV 1 Z.1.2.2.2.2 (lw_V q157 q159 qs3 q18 q160) rfl rfl rfl (by decide +kernel) ⟨by decide, by decide⟩) rfl hl.1 rfl (Nat.le_of_ble_eq_true rfl) dX0_leap_99 (fun H locs Y => ?_)
          refine lv_istore (lv' := [(4, .int (xEvR (xEvS (tzit (xLp1 (4 * tzix ch)) (tzix x) (xSwp u (4 * tzix ch))) (4 * tzix ch)))), (0, .ref (a 16)), (1, .int ch), (2, .int x), (3, .int (4 * ch))]) hx hb dX0_leap_102 hl (by decide) rfl (fun ls hl => ?_)
          refine lv_iload hx hb dX0_leap_104 (lv_at hl 0 rfl) ?_
          refine lv_sipush (v := 255) hx hb dX0_leap_106 (by decide) ?_
          refine lv_iand hx hb dX0_leap_109 ?_
          exact tz_ri Z hr hlk Y dX0_leap_110 (by rw [xLeap, if_neg c_4, if_neg c_10, if_pos c_16, xLpS]) (by rw [xLeap, if_neg c_4, if_neg c_10, if_pos c_16, xLpS])
      · refine lv_bipush (v := (-2)) hx hb dX0_leap_19 (by decide) ?_
        exact tz_ri Z hr hlk Y dX0_leap_21 (by rw [xLeap, if_neg c_4, if_neg c_10, if_neg c_16] <;> rfl) (by rw [xLeap, if_neg c_4, if_neg c_10, if_neg c_16] <;> rfl)
  · refine lv_iconst (v := (-1)) hx hb dX0_leap_7 (by decide) ?_
    exact tz_ri Z hr hlk Y dX0_leap_8 (by rw [xLeap, if_pos c_4] <;> rfl) (by rw [xLeap, if_pos c_4] <;> rfl)
set_option maxHeartbeats 4000000 in
set_option maxRecDepth 100000 in
theorem kX0_turn (l : Launch) (D : va_G) (a : Nat → Nat) (c : Nat → ClassId) (u : tzS) (ch : Int32) : tzMi l yX0_turn cX0_turn 3 .int (tzR 1) D (wX0 a c) (tX0 c) [.ref (a 16), .int ch] u ((xTurn u ch).1) ((xTurn u ch).2) := by
  refine tzMi.mk RX0 (by decide) rfl (Nat.le_of_ble_eq_true rfl) ?_
  intro p e s m below meth cd A ls Z hr hlk hA Y hl
  have hx := Z.1.1
  have hb := Z.1.2.1
  have hl : lv_has ls 3 [(0, .ref (a 16)), (1, .int ch)] := hl
  refine lv_iload_n hx hb dX0_turn_0 rfl (lv_at hl 1 rfl) ?_
  refine tz_cSi Z Y hA ⟨Nat.zero_le _, Nat.zero_le _⟩ (kX0_isChain l D a c u ch) (va_cwS 1 Z.1.2.2.2.2 (lw_S q126 q127 q18 q128) rfl rfl rfl (by decide +kernel) ⟨by decide, by decide⟩) rfl hl.1 rfl (Nat.le_of_ble_eq_true rfl) dX0_turn_1 (fun H locs Y => ?_)
  refine lv_if_ne (tgt := 9) hx hb dX0_turn_4 (by decide) (fun c_4 => ?_) (fun c_4 => ?_)
  · have h1 := tz_isC c_4
    have h13 := h1.2
    refine lv_iconst (v := 4) hx hb dX0_turn_9 (by decide) ?_
    refine lv_iload_n hx hb dX0_turn_10 rfl (lv_at hl 1 rfl) ?_
    refine lv_imul hx hb dX0_turn_11 ?_
    refine tz_top (y := nI ((4 * tzix ch) + 0)) (tz_4b h1) ?_
    refine lv_istore_n (lv' := [(2, .int (nI ((4 * tzix ch) + 0))), (0, .ref (a 16)), (1, .int ch)]) hx hb dX0_turn_12 rfl hl (by decide) rfl (fun ls hl => ?_)
    refine tz_loop (G := fun i H locs ls => tzY D A s.heap (wX0 a c (tzit (xTn1 (4 * tzix ch)) i u)) H locs ∧ lv_has ls 3 [(0, .ref (a 16)), (1, .int ch), (2, .int (nI ((4 * tzix ch) + i)))]) 4 ?_ ?_ ⟨by rw [tzit_0]; exact Y, lv_sub hl [1, 2, 0] rfl⟩
    · rintro i H locs ls hi ⟨Y, hl⟩ ih
      refine lv_iload_n hx hb dX0_turn_13 rfl (lv_at hl 2 rfl) ?_
      refine lv_iconst (v := 4) hx hb dX0_turn_14 (by decide) ?_
      refine lv_iload_n hx hb dX0_turn_15 rfl (lv_at hl 1 rfl) ?_
      refine lv_imul hx hb dX0_turn_16 ?_
      refine lv_iconst (v := 4) hx hb dX0_turn_17 (by decide) ?_
      refine lv_iadd hx hb dX0_turn_18 ?_
      refine tz_top (y := nI ((4 * tzix ch) + 4)) (tz_4b4 h1) ?_
      refine lv_icmp_ge (tgt := 41) hx hb dX0_turn_19 (by decide) (fun c9 => absurd c9 (nI_ge (by omega) (by omega))) (fun _ => ?_)
      refine lv_aload_n hx hb dX0_turn_22 rfl (lv_at hl 0 rfl) ?_
      refine x0_getr 6 (by decide) Z Y q34 dX0_turn_23 ?_
      refine lv_iload_n hx hb dX0_turn_26 rfl (lv_at hl 2 rfl) ?_
      refine lv_aload_n hx hb dX0_turn_27 rfl (lv_at hl 0 rfl) ?_
      refine x0_getr 6 (by decide) Z Y q34 dX0_turn_28 ?_
      refine lv_iload_n hx hb dX0_turn_31 rfl (lv_at hl 2 rfl) ?_
      refine x0_ald 6 (by decide) (i := (4 * tzix ch) + i) Z Y (tzat_nI (show _ < 12 by omega)) dX0_turn_32 ?_
      refine lv_ineg hx hb dX0_turn_33 ?_
      refine x0_ast 6 (by decide) (i := (4 * tzix ch) + i) Z Y (tzat_nI (show _ < 12 by omega)) dX0_turn_34 (fun H locs Y => ?_)
      refine lv_iinc (v := nI ((4 * tzix ch) + (i + 1))) (lv' := [(2, .int (nI ((4 * tzix ch) + (i + 1)))), (0, .ref (a 16)), (1, .int ch)]) hx hb dX0_turn_35 hl (k := 2) rfl (tz_inc _) (by decide) rfl (fun ls hl => ?_)
      refine lv_goto (tgt := 13) hx hb dX0_turn_38 (by decide) ?_
      have e9 : tzit (xTn1 (4 * tzix ch)) (i + 1) u = tzst (tzit (xTn1 (4 * tzix ch)) i u) 6 ((4 * tzix ch) + i) (-((tzit (xTn1 (4 * tzix ch)) i u) 6 ((4 * tzix ch) + i))) := by
        rw [tzit_s, xTn1] <;> rfl
      exact ih _ _ _ ⟨by rw [e9]; exact Y, lv_sub hl [1, 2, 0] rfl⟩
    · rintro H locs ls ⟨Y, hl⟩
      refine lv_iload_n hx hb dX0_turn_13 rfl (lv_at hl 2 rfl) ?_
      refine lv_iconst (v := 4) hx hb dX0_turn_14 (by decide) ?_
      refine lv_iload_n hx hb dX0_turn_15 rfl (lv_at hl 1 rfl) ?_
      refine lv_imul hx hb dX0_turn_16 ?_
      refine lv_iconst (v := 4) hx hb dX0_turn_17 (by decide) ?_
      refine lv_iadd hx hb dX0_turn_18 ?_
      refine tz_top (y := nI ((4 * tzix ch) + 4)) (tz_4b4 h1) ?_
      refine lv_icmp_ge (tgt := 41) hx hb dX0_turn_19 (by decide) (fun _ => ?_) (fun c9 => absurd (Int32.le_refl _) c9)
      refine lv_iconst (v := 0) hx hb dX0_turn_41 (by decide) ?_
      exact tz_ri Z hr hlk Y dX0_turn_42 (by rw [xTurn, if_neg c_4] <;> rfl) (by rw [xTurn, if_neg c_4] <;> rfl)
  · refine lv_iconst (v := (-1)) hx hb dX0_turn_7 (by decide) ?_
    exact tz_ri Z hr hlk Y dX0_turn_8 (by rw [xTurn, if_pos c_4] <;> rfl) (by rw [xTurn, if_pos c_4] <;> rfl)
set_option maxHeartbeats 4000000 in
set_option maxRecDepth 100000 in
theorem kX0_copy (l : Launch) (D : va_G) (a : Nat → Nat) (c : Nat → ClassId) (u : tzS) (x y : Int32) : tzMi l yX0_copy cX0_copy 4 .int (tzR 1) D (wX0 a c) (tX0 c) [.ref (a 16), .int x, .int y] u ((xCopy u x y).1) ((xCopy u x y).2) := by
  refine tzMi.mk RX0 (by decide) rfl (Nat.le_of_ble_eq_true rfl) ?_
  intro p e s m below meth cd A ls Z hr hlk hA Y hl
  have hx := Z.1.1
  have hb := Z.1.2.1
  have hl : lv_has ls 4 [(0, .ref (a 16)), (1, .int x), (2, .int y)] := hl
  refine lv_iload_n hx hb dX0_copy_0 rfl (lv_at hl 1 rfl) ?_
  refine tz_cSi Z Y hA ⟨Nat.zero_le _, Nat.zero_le _⟩ (kX0_isChain l D a c u x) (va_cwS 1 Z.1.2.2.2.2 (lw_S q126 q127 q18 q128) rfl rfl rfl (by decide +kernel) ⟨by decide, by decide⟩) rfl hl.1 rfl (Nat.le_of_ble_eq_true rfl) dX0_copy_1 (fun H locs Y => ?_)
  refine lv_if_eq (tgt := 14) hx hb dX0_copy_4 (by decide) (fun c_4 => ?_) (fun c_4 => ?_)
  · refine lv_iconst (v := (-1)) hx hb dX0_copy_14 (by decide) ?_
    exact tz_ri Z hr hlk Y dX0_copy_15 (by rw [xCopy, if_pos c_4] <;> rfl) (by rw [xCopy, if_pos c_4] <;> rfl)
  · have h1 := tz_isC c_4
    refine lv_iload_n hx hb dX0_copy_7 rfl (lv_at hl 2 rfl) ?_
    refine tz_cSi Z Y hA ⟨Nat.zero_le _, Nat.zero_le _⟩ (kX0_isChain l D a c u y) (va_cwS 1 Z.1.2.2.2.2 (lw_S q126 q127 q18 q128) rfl rfl rfl (by decide +kernel) ⟨by decide, by decide⟩) rfl hl.1 rfl (Nat.le_of_ble_eq_true rfl) dX0_copy_8 (fun H locs Y => ?_)
    refine lv_if_ne (tgt := 16) hx hb dX0_copy_11 (by decide) (fun c_11 => ?_) (fun c_11 => ?_)
    · have h2 := tz_isC c_11
      refine lv_iconst (v := nI 0) hx hb dX0_copy_16 (by decide) ?_
      refine lv_istore_n (lv' := [(3, .int (nI 0)), (0, .ref (a 16)), (1, .int x), (2, .int y)]) hx hb dX0_copy_17 rfl hl (by decide) rfl (fun ls hl => ?_)
      refine tz_loop (G := fun i H locs ls => tzY D A s.heap (wX0 a c (tzit (xCp1 (4 * tzix x) (4 * tzix y)) i u)) H locs ∧ lv_has ls 4 [(0, .ref (a 16)), (1, .int x), (2, .int y), (3, .int (nI i))]) 4 ?_ ?_ ⟨by rw [tzit_0]; exact Y, lv_sub hl [1, 2, 3, 0] rfl⟩
      · rintro i H locs ls hi ⟨Y, hl⟩ ih
        refine lv_iload_n hx hb dX0_copy_18 rfl (lv_at hl 3 rfl) ?_
        refine lv_iconst (v := nI 4) hx hb dX0_copy_19 (by decide) ?_
        refine lv_icmp_ge (tgt := 69) hx hb dX0_copy_20 (by decide) (fun c9 => absurd c9 (nI_ge hi (by omega))) (fun _ => ?_)
        refine lv_aload_n hx hb dX0_copy_23 rfl (lv_at hl 0 rfl) ?_
        refine x0_getr 5 (by decide) Z Y q33 dX0_copy_24 ?_
        refine lv_iconst (v := 4) hx hb dX0_copy_27 (by decide) ?_
        refine lv_iload_n hx hb dX0_copy_28 rfl (lv_at hl 2 rfl) ?_
        refine lv_imul hx hb dX0_copy_29 ?_
        refine lv_iload_n hx hb dX0_copy_30 rfl (lv_at hl 3 rfl) ?_
        refine lv_iadd hx hb dX0_copy_31 ?_
        refine lv_aload_n hx hb dX0_copy_32 rfl (lv_at hl 0 rfl) ?_
        refine x0_getr 5 (by decide) Z Y q33 dX0_copy_33 ?_
        refine lv_iconst (v := 4) hx hb dX0_copy_36 (by decide) ?_
        refine lv_iload_n hx hb dX0_copy_37 rfl (lv_at hl 1 rfl) ?_
        refine lv_imul hx hb dX0_copy_38 ?_
        refine lv_iload_n hx hb dX0_copy_39 rfl (lv_at hl 3 rfl) ?_
        refine lv_iadd hx hb dX0_copy_40 ?_
        refine x0_ald 5 (by decide) (i := (4 * tzix x) + i) Z Y (tz_b (tz_4b h1) (tz_4le h1) (tzat_nI hi)) dX0_copy_41 ?_
        refine x0_ast 5 (by decide) (i := (4 * tzix y) + i) Z Y (tz_b (tz_4b h2) (tz_4le h2) (tzat_nI hi)) dX0_copy_42 (fun H locs Y => ?_)
        refine lv_aload_n hx hb dX0_copy_43 rfl (lv_at hl 0 rfl) ?_
        refine x0_getr 6 (by decide) Z Y q34 dX0_copy_44 ?_
        refine lv_iconst (v := 4) hx hb dX0_copy_47 (by decide) ?_
        refine lv_iload_n hx hb dX0_copy_48 rfl (lv_at hl 2 rfl) ?_
        refine lv_imul hx hb dX0_copy_49 ?_
        refine lv_iload_n hx hb dX0_copy_50 rfl (lv_at hl 3 rfl) ?_
        refine lv_iadd hx hb dX0_copy_51 ?_
        refine lv_aload_n hx hb dX0_copy_52 rfl (lv_at hl 0 rfl) ?_
        refine x0_getr 6 (by decide) Z Y q34 dX0_copy_53 ?_
        refine lv_iconst (v := 4) hx hb dX0_copy_56 (by decide) ?_
        refine lv_iload_n hx hb dX0_copy_57 rfl (lv_at hl 1 rfl) ?_
        refine lv_imul hx hb dX0_copy_58 ?_
        refine lv_iload_n hx hb dX0_copy_59 rfl (lv_at hl 3 rfl) ?_
        refine lv_iadd hx hb dX0_copy_60 ?_
        refine x0_ald 6 (by decide) (i := (4 * tzix x) + i) Z Y (tz_b (tz_4b h1) (tz_4le h1) (tzat_nI hi)) dX0_copy_61 ?_
        refine x0_ast 6 (by decide) (i := (4 * tzix y) + i) Z Y (tz_b (tz_4b h2) (tz_4le h2) (tzat_nI hi)) dX0_copy_62 (fun H locs Y => ?_)
        refine lv_iinc (v := nI (i + 1)) (lv' := [(3, .int (nI (i + 1))), (0, .ref (a 16)), (1, .int x), (2, .int y)]) hx hb dX0_copy_63 hl (k := 3) rfl (tz_inc i) (by decide) rfl (fun ls hl => ?_)
        refine lv_goto (tgt := 18) hx hb dX0_copy_66 (by decide) ?_
        have e9 : tzit (xCp1 (4 * tzix x) (4 * tzix y)) (i + 1) u = tzst (tzst (tzit (xCp1 (4 * tzix x) (4 * tzix y)) i u) 5 ((4 * tzix y) + i) ((tzit (xCp1 (4 * tzix x) (4 * tzix y)) i u) 5 ((4 * tzix x) + i))) 6 ((4 * tzix y) + i) ((tzst (tzit (xCp1 (4 * tzix x) (4 * tzix y)) i u) 5 ((4 * tzix y) + i) ((tzit (xCp1 (4 * tzix x) (4 * tzix y)) i u) 5 ((4 * tzix x) + i))) 6 ((4 * tzix x) + i)) := by
          rw [tzit_s, xCp1] <;> rfl
        exact ih _ _ _ ⟨by rw [e9]; exact Y, lv_sub hl [1, 2, 3, 0] rfl⟩
      · rintro H locs ls ⟨Y, hl⟩
        refine lv_iload_n hx hb dX0_copy_18 rfl (lv_at hl 3 rfl) ?_
        refine lv_iconst (v := nI 4) hx hb dX0_copy_19 (by decide) ?_
        refine lv_icmp_ge (tgt := 69) hx hb dX0_copy_20 (by decide) (fun _ => ?_) (fun c9 => absurd (Int32.le_refl _) c9)
        refine lv_iconst (v := 0) hx hb dX0_copy_69 (by decide) ?_
        exact tz_ri Z hr hlk Y dX0_copy_70 (by rw [xCopy, if_neg c_4, if_neg c_11] <;> rfl) (by rw [xCopy, if_neg c_4, if_neg c_11] <;> rfl)
    · refine lv_iconst (v := (-1)) hx hb dX0_copy_14 (by decide) ?_
      exact tz_ri Z hr hlk Y dX0_copy_15 (by rw [xCopy, if_neg c_4, if_pos c_11] <;> rfl) (by rw [xCopy, if_neg c_4, if_pos c_11] <;> rfl)
set_option maxHeartbeats 4000000 in
set_option maxRecDepth 100000 in
theorem kX0_live (l : Launch) (D : va_G) (a : Nat → Nat) (c : Nat → ClassId) (u : tzS) {n t : Nat} (hW : tzWF u n t) : tzMi l yX0_live cX0_live 3 .int (tzR 2) D (wX0 a c) (tX0 c) [.ref (a 16)] u ((xLive u).1) ((xLive u).2) := by
  refine tzMi.mk RX0 (by decide) rfl (Nat.le_of_ble_eq_true rfl) ?_
  intro p e s m below meth cd A ls Z hr hlk hA Y hl
  have hx := Z.1.1
  have hb := Z.1.2.1
  have hl : lv_has ls 3 [(0, .ref (a 16))] := hl
  have n24 : n ≤ 24 := hW.2.1
  have t8 : t ≤ 8 := hW.2.2.2.1
  refine lv_aload_n hx hb dX0_live_0 rfl (lv_at hl 0 rfl) ?_
  refine tz_cVv (ci := 0) (C := RX0) Z Y hA ⟨Nat.zero_le _, Nat.zero_le _⟩ (kX0_mark l D a c u hW) rfl rfl (cwV 0 Z.1.2.2.2.2 (lw_V q161 q163 qs4 q18 q164) rfl rfl rfl (by decide +kernel) ⟨by decide, by decide⟩) rfl hl.1 rfl (Nat.le_of_ble_eq_true rfl) dX0_live_1 (fun H locs Y => ?_)
  obtain ⟨z, ez⟩ : ∃ z, z = xMark u := ⟨_, rfl⟩
  rw [← ez] at Y
  have w9 : tzWF z n t := by rw [ez]; exact (hW.kp (xMark_kp u) (by decide))
  refine lv_iconst (v := 0) hx hb dX0_live_4 (by decide) ?_
  refine lv_istore_n (lv' := [(1, .int 0), (0, .ref (a 16))]) hx hb dX0_live_5 rfl hl (by decide) rfl (fun ls hl => ?_)
  refine lv_iconst (v := nI 0) hx hb dX0_live_6 (by decide) ?_
  refine lv_istore_n (lv' := [(2, .int (nI 0)), (1, .int 0), (0, .ref (a 16))]) hx hb dX0_live_7 rfl hl (by decide) rfl (fun ls hl => ?_)
  refine tz_loop (G := fun i H locs ls => tzY D A s.heap (wX0 a c z) H locs ∧ lv_has ls 3 [(0, .ref (a 16)), (1, .int (tzsm (fun k => if z 10 k = 0 then 0 else 1) i)), (2, .int (nI i))]) n ?_ ?_ ⟨Y, lv_sub hl [2, 1, 0] rfl⟩
  · rintro i H locs ls hi ⟨Y, hl⟩ ih
    refine lv_iload_n hx hb dX0_live_8 rfl (lv_at hl 2 rfl) ?_
    refine lv_aload_n hx hb dX0_live_9 rfl (lv_at hl 0 rfl) ?_
    refine x0_geti 12 (by decide) Z Y q40 dX0_live_10 ?_
    refine tz_top (y := nI n) w9.1 ?_
    refine lv_icmp_ge (tgt := 39) hx hb dX0_live_13 (by decide) (fun c9 => absurd c9 (nI_ge hi (by omega))) (fun _ => ?_)
    refine lv_iload_n hx hb dX0_live_16 rfl (lv_at hl 1 rfl) ?_
    refine lv_aload_n hx hb dX0_live_17 rfl (lv_at hl 0 rfl) ?_
    refine x0_getr 10 (by decide) Z Y q38 dX0_live_18 ?_
    refine lv_iload_n hx hb dX0_live_21 rfl (lv_at hl 2 rfl) ?_
    refine x0_zald (i := i) Z Y (tzat_nI (show _ < 24 by omega)) dX0_live_22 ?_
    refine lv_if_eq (tgt := 30) hx hb dX0_live_23 (by decide) (fun c_23 => ?_) (fun c_23 => ?_)
    · refine lv_iconst (v := 0) hx hb dX0_live_30 (by decide) ?_
      refine lv_iadd hx hb dX0_live_31 ?_
      refine tz_top (y := tzsm (fun k => if z 10 k = 0 then 0 else 1) (i + 1)) (by show _ = tzsm (fun k => if z 10 k = 0 then 0 else 1) i + (if z 10 i = 0 then 0 else 1); rw [if_pos c_23]) ?_
      refine lv_istore_n (lv' := [(1, .int (tzsm (fun k => if z 10 k = 0 then 0 else 1) (i + 1))), (0, .ref (a 16)), (2, .int (nI i))]) hx hb dX0_live_32 rfl hl (by decide) rfl (fun ls hl => ?_)
      refine lv_iinc (v := nI (i + 1)) (lv' := [(2, .int (nI (i + 1))), (1, .int (tzsm (fun k => if z 10 k = 0 then 0 else 1) (i + 1))), (0, .ref (a 16))]) hx hb dX0_live_33 hl (k := 2) rfl (tz_inc i) (by decide) rfl (fun ls hl => ?_)
      refine lv_goto (tgt := 8) hx hb dX0_live_36 (by decide) ?_
      exact ih _ _ _ ⟨Y, lv_sub hl [2, 1, 0] rfl⟩
    · refine lv_iconst (v := 1) hx hb dX0_live_26 (by decide) ?_
      refine lv_goto (tgt := 31) hx hb dX0_live_27 (by decide) ?_
      refine lv_iadd hx hb dX0_live_31 ?_
      refine tz_top (y := tzsm (fun k => if z 10 k = 0 then 0 else 1) (i + 1)) (by show _ = tzsm (fun k => if z 10 k = 0 then 0 else 1) i + (if z 10 i = 0 then 0 else 1); rw [if_neg c_23]) ?_
      refine lv_istore_n (lv' := [(1, .int (tzsm (fun k => if z 10 k = 0 then 0 else 1) (i + 1))), (0, .ref (a 16)), (2, .int (nI i))]) hx hb dX0_live_32 rfl hl (by decide) rfl (fun ls hl => ?_)
      refine lv_iinc (v := nI (i + 1)) (lv' := [(2, .int (nI (i + 1))), (1, .int (tzsm (fun k => if z 10 k = 0 then 0 else 1) (i + 1))), (0, .ref (a 16))]) hx hb dX0_live_33 hl (k := 2) rfl (tz_inc i) (by decide) rfl (fun ls hl => ?_)
      refine lv_goto (tgt := 8) hx hb dX0_live_36 (by decide) ?_
      exact ih _ _ _ ⟨Y, lv_sub hl [2, 1, 0] rfl⟩
  · rintro H locs ls ⟨Y, hl⟩
    refine lv_iload_n hx hb dX0_live_8 rfl (lv_at hl 2 rfl) ?_
    refine lv_aload_n hx hb dX0_live_9 rfl (lv_at hl 0 rfl) ?_
    refine x0_geti 12 (by decide) Z Y q40 dX0_live_10 ?_
    refine tz_top (y := nI n) w9.1 ?_
    refine lv_icmp_ge (tgt := 39) hx hb dX0_live_13 (by decide) (fun _ => ?_) (fun c9 => absurd (Int32.le_refl _) c9)
    refine lv_iload_n hx hb dX0_live_39 rfl (lv_at hl 1 rfl) ?_
    exact tz_ri Z hr hlk Y dX0_live_40 (by rw [xLive, ← ez, hW.n]) (by rw [xLive, ← ez])
end
section
set_option maxRecDepth 100000
set_option maxHeartbeats 4000000 in
set_option maxRecDepth 100000 in
theorem kX1_badChain (l : Launch) (D : va_G) (a : Nat → Nat) (c : Nat → ClassId) (u : tzS) (ch : Int32) : tzMi l yX1_badChain cX1_badChain 2 .boolean (tzR 0) D (wX1 a c) (tX1 c) [.ref (a 14), .int ch] u (mBadC ch) u := by
  refine tzMi.mk RX1 (by decide) rfl (Nat.le_of_ble_eq_true rfl) ?_
  intro p e s m below meth cd A ls Z hr hlk hA Y hl
  have hx := Z.1.1
  have hb := Z.1.2.1
  have hl : lv_has ls 2 [(0, .ref (a 14)), (1, .int ch)] := hl
  refine lv_iload_n hx hb dX1_badChain_0 rfl (lv_at hl 1 rfl) ?_
  refine lv_if_lt (tgt := 9) hx hb dX1_badChain_1 (by decide) (fun c_1 => ?_) (fun c_1 => ?_)
  · refine lv_iconst (v := 1) hx hb dX1_badChain_9 (by decide) ?_
    refine lv_goto (tgt := 14) hx hb dX1_badChain_10 (by decide) ?_
    exact tz_rz Z hr hlk Y rfl dX1_badChain_14 (by rw [mBadC, if_pos c_1] <;> rfl) rfl
  · refine lv_iload_n hx hb dX1_badChain_4 rfl (lv_at hl 1 rfl) ?_
    refine lv_iconst (v := 2) hx hb dX1_badChain_5 (by decide) ?_
    refine lv_icmp_le (tgt := 13) hx hb dX1_badChain_6 (by decide) (fun c_6 => ?_) (fun c_6 => ?_)
    · refine lv_iconst (v := 0) hx hb dX1_badChain_13 (by decide) ?_
      exact tz_rz Z hr hlk Y rfl dX1_badChain_14 (by rw [mBadC, if_neg c_1, if_pos c_6] <;> rfl) rfl
    · refine lv_iconst (v := 1) hx hb dX1_badChain_9 (by decide) ?_
      refine lv_goto (tgt := 14) hx hb dX1_badChain_10 (by decide) ?_
      exact tz_rz Z hr hlk Y rfl dX1_badChain_14 (by rw [mBadC, if_neg c_1, if_neg c_6] <;> rfl) rfl
set_option maxHeartbeats 4000000 in
set_option maxRecDepth 100000 in
theorem kX1_badParameter (l : Launch) (D : va_G) (a : Nat → Nat) (c : Nat → ClassId) (u : tzS) (j : Int32) : tzMi l yX1_badParameter cX1_badParameter 2 .boolean (tzR 0) D (wX1 a c) (tX1 c) [.ref (a 14), .int j] u (mBadP j) u := by
  refine tzMi.mk RX1 (by decide) rfl (Nat.le_of_ble_eq_true rfl) ?_
  intro p e s m below meth cd A ls Z hr hlk hA Y hl
  have hx := Z.1.1
  have hb := Z.1.2.1
  have hl : lv_has ls 2 [(0, .ref (a 14)), (1, .int j)] := hl
  refine lv_iload_n hx hb dX1_badParameter_0 rfl (lv_at hl 1 rfl) ?_
  refine lv_if_lt (tgt := 9) hx hb dX1_badParameter_1 (by decide) (fun c_1 => ?_) (fun c_1 => ?_)
  · refine lv_iconst (v := 1) hx hb dX1_badParameter_9 (by decide) ?_
    refine lv_goto (tgt := 14) hx hb dX1_badParameter_10 (by decide) ?_
    exact tz_rz Z hr hlk Y rfl dX1_badParameter_14 (by rw [mBadP, if_pos c_1] <;> rfl) rfl
  · refine lv_iload_n hx hb dX1_badParameter_4 rfl (lv_at hl 1 rfl) ?_
    refine lv_iconst (v := 3) hx hb dX1_badParameter_5 (by decide) ?_
    refine lv_icmp_le (tgt := 13) hx hb dX1_badParameter_6 (by decide) (fun c_6 => ?_) (fun c_6 => ?_)
    · refine lv_iconst (v := 0) hx hb dX1_badParameter_13 (by decide) ?_
      exact tz_rz Z hr hlk Y rfl dX1_badParameter_14 (by rw [mBadP, if_neg c_1, if_pos c_6] <;> rfl) rfl
    · refine lv_iconst (v := 1) hx hb dX1_badParameter_9 (by decide) ?_
      refine lv_goto (tgt := 14) hx hb dX1_badParameter_10 (by decide) ?_
      exact tz_rz Z hr hlk Y rfl dX1_badParameter_14 (by rw [mBadP, if_neg c_1, if_neg c_6] <;> rfl) rfl
set_option maxHeartbeats 4000000 in
set_option maxRecDepth 100000 in
theorem kX1_badNode (l : Launch) (D : va_G) (a : Nat → Nat) (c : Nat → ClassId) (u : tzS) (k : Int32) : tzMi l yX1_badNode cX1_badNode 2 .boolean (tzR 0) D (wX1 a c) (tX1 c) [.ref (a 14), .int k] u (mBadN u k) u := by
  refine tzMi.mk RX1 (by decide) rfl (Nat.le_of_ble_eq_true rfl) ?_
  intro p e s m below meth cd A ls Z hr hlk hA Y hl
  have hx := Z.1.1
  have hb := Z.1.2.1
  have hl : lv_has ls 2 [(0, .ref (a 14)), (1, .int k)] := hl
  refine lv_iload_n hx hb dX1_badNode_0 rfl (lv_at hl 1 rfl) ?_
  refine lv_if_lt (tgt := 18) hx hb dX1_badNode_1 (by decide) (fun c_1 => ?_) (fun c_1 => ?_)
  · refine lv_iconst (v := 1) hx hb dX1_badNode_18 (by decide) ?_
    refine lv_goto (tgt := 23) hx hb dX1_badNode_19 (by decide) ?_
    exact tz_rz Z hr hlk Y rfl dX1_badNode_23 (by rw [mBadN, if_pos c_1] <;> rfl) rfl
  · refine lv_iload_n hx hb dX1_badNode_4 rfl (lv_at hl 1 rfl) ?_
    refine lv_aload_n hx hb dX1_badNode_5 rfl (lv_at hl 0 rfl) ?_
    refine x1_geti 0 (by decide) Z Y q218 dX1_badNode_6 ?_
    refine lv_icmp_ge (tgt := 18) hx hb dX1_badNode_9 (by decide) (fun c_9 => ?_) (fun c_9 => ?_)
    · refine lv_iconst (v := 1) hx hb dX1_badNode_18 (by decide) ?_
      refine lv_goto (tgt := 23) hx hb dX1_badNode_19 (by decide) ?_
      exact tz_rz Z hr hlk Y rfl dX1_badNode_23 (by rw [mBadN, if_neg c_1, if_pos c_9] <;> rfl) rfl
    · refine lv_iload_n hx hb dX1_badNode_12 rfl (lv_at hl 1 rfl) ?_
      refine lv_bipush (v := 23) hx hb dX1_badNode_13 (by decide) ?_
      refine lv_icmp_le (tgt := 22) hx hb dX1_badNode_15 (by decide) (fun c_15 => ?_) (fun c_15 => ?_)
      · refine lv_iconst (v := 0) hx hb dX1_badNode_22 (by decide) ?_
        exact tz_rz Z hr hlk Y rfl dX1_badNode_23 (by rw [mBadN, if_neg c_1, if_neg c_9, if_pos c_15] <;> rfl) rfl
      · refine lv_iconst (v := 1) hx hb dX1_badNode_18 (by decide) ?_
        refine lv_goto (tgt := 23) hx hb dX1_badNode_19 (by decide) ?_
        exact tz_rz Z hr hlk Y rfl dX1_badNode_23 (by rw [mBadN, if_neg c_1, if_neg c_9, if_neg c_15] <;> rfl) rfl
set_option maxHeartbeats 4000000 in
set_option maxRecDepth 100000 in
theorem kX1_make (l : Launch) (D : va_G) (a : Nat → Nat) (c : Nat → ClassId) (u : tzS) (kd x y : Int32) {n t : Nat} (hW : tzWM u n t) : tzMi l yX1_make cX1_make 5 .int (tzR 0) D (wX1 a c) (tX1 c) [.ref (a 14), .int kd, .int x, .int y] u ((mMake u kd x y).1) ((mMake u kd x y).2) := by
  refine tzMi.mk RX1 (by decide) rfl (Nat.le_of_ble_eq_true rfl) ?_
  intro p e s m below meth cd A ls Z hr hlk hA Y hl
  have hx := Z.1.1
  have hb := Z.1.2.1
  have hl : lv_has ls 5 [(0, .ref (a 14)), (1, .int kd), (2, .int x), (3, .int y)] := hl
  refine lv_aload_n hx hb dX1_make_0 rfl (lv_at hl 0 rfl) ?_
  refine x1_geti 0 (by decide) Z Y q218 dX1_make_1 ?_
  refine lv_istore (lv' := [(4, .int (u 0 0)), (0, .ref (a 14)), (1, .int kd), (2, .int x), (3, .int y)]) hx hb dX1_make_4 hl (by decide) rfl (fun ls hl => ?_)
  refine lv_iload hx hb dX1_make_6 (lv_at hl 0 rfl) ?_
  refine lv_bipush (v := 23) hx hb dX1_make_8 (by decide) ?_
  refine lv_icmp_le (tgt := 16) hx hb dX1_make_10 (by decide) (fun c_10 => ?_) (fun c_10 => ?_)
  · have h9 := tz_le23 hW c_10
    refine lv_aload_n hx hb dX1_make_16 rfl (lv_at hl 1 rfl) ?_
    refine x1_getr 1 (by decide) Z Y q219 dX1_make_17 ?_
    refine lv_iload hx hb dX1_make_20 (lv_at hl 0 rfl) ?_
    refine lv_iload_n hx hb dX1_make_22 rfl (lv_at hl 2 rfl) ?_
    refine x1_ast 1 (by decide) (i := tzix (u 0 0)) Z Y h9 dX1_make_23 (fun H locs Y => ?_)
    refine lv_aload_n hx hb dX1_make_24 rfl (lv_at hl 1 rfl) ?_
    refine x1_getr 2 (by decide) Z Y q220 dX1_make_25 ?_
    refine lv_iload hx hb dX1_make_28 (lv_at hl 0 rfl) ?_
    refine lv_iload_n hx hb dX1_make_30 rfl (lv_at hl 3 rfl) ?_
    refine x1_ast 2 (by decide) (i := tzix (u 0 0)) Z Y h9 dX1_make_31 (fun H locs Y => ?_)
    refine lv_aload_n hx hb dX1_make_32 rfl (lv_at hl 1 rfl) ?_
    refine x1_getr 3 (by decide) Z Y q221 dX1_make_33 ?_
    refine lv_iload hx hb dX1_make_36 (lv_at hl 0 rfl) ?_
    refine lv_iload_n hx hb dX1_make_38 rfl (lv_at hl 4 rfl) ?_
    refine x1_ast 3 (by decide) (i := tzix (u 0 0)) Z Y h9 dX1_make_39 (fun H locs Y => ?_)
    refine lv_aload_n hx hb dX1_make_40 rfl (lv_at hl 1 rfl) ?_
    refine lv_iload hx hb dX1_make_41 (lv_at hl 0 rfl) ?_
    refine lv_iconst (v := 1) hx hb dX1_make_43 (by decide) ?_
    refine lv_iadd hx hb dX1_make_44 ?_
    refine x1_puti 0 (by decide) Z Y q218 dX1_make_45 (fun H locs Y => ?_)
    refine lv_iload hx hb dX1_make_48 (lv_at hl 0 rfl) ?_
    exact tz_ri Z hr hlk Y dX1_make_50 (by rw [mMake, if_pos c_10] <;> rfl) (by rw [mMake, if_pos c_10] <;> rfl)
  · refine lv_bipush (v := (-2)) hx hb dX1_make_13 (by decide) ?_
    exact tz_ri Z hr hlk Y dX1_make_15 (by rw [mMake, if_neg c_10] <;> rfl) (by rw [mMake, if_neg c_10] <;> rfl)
set_option maxHeartbeats 4000000 in
set_option maxRecDepth 100000 in
theorem kX1_parameter (l : Launch) (D : va_G) (a : Nat → Nat) (c : Nat → ClassId) (u : tzS) (j : Int32) {n t : Nat} (hW : tzWM u n t) : tzMi l yX1_parameter cX1_parameter 2 .int (tzR 1) D (wX1 a c) (tX1 c) [.ref (a 14), .int j] u ((mParam u j).1) ((mParam u j).2) := by
  refine tzMi.mk RX1 (by decide) rfl (Nat.le_of_ble_eq_true rfl) ?_
  intro p e s m below meth cd A ls Z hr hlk hA Y hl
  have hx := Z.1.1
  have hb := Z.1.2.1
  have hl : lv_has ls 2 [(0, .ref (a 14)), (1, .int j)] := hl
  refine lv_aload_n hx hb dX1_parameter_0 rfl (lv_at hl 0 rfl) ?_
  refine lv_iload_n hx hb dX1_parameter_1 rfl (lv_at hl 1 rfl) ?_
  refine tz_cVi (ci := 1) (C := RX1) Z Y hA ⟨Nat.zero_le _, Nat.zero_le _⟩ (kX1_badParameter l D a c u j) rfl rfl (cwV 1 Z.1.2.2.2.2 (lw_V q265 q267 qs9 q19 q268) rfl rfl rfl (by decide +kernel) ⟨by decide, by decide⟩) rfl hl.1 rfl (Nat.le_of_ble_eq_true rfl) dX1_parameter_2 (fun H locs Y => ?_)
  refine lv_if_eq (tgt := 12) hx hb dX1_parameter_5 (by decide) (fun c_5 => ?_) (fun c_5 => ?_)
  · refine lv_aload_n hx hb dX1_parameter_12 rfl (lv_at hl 0 rfl) ?_
    refine lv_iconst (v := 4) hx hb dX1_parameter_13 (by decide) ?_
    refine lv_iload_n hx hb dX1_parameter_14 rfl (lv_at hl 1 rfl) ?_
    refine lv_iconst (v := 0) hx hb dX1_parameter_15 (by decide) ?_
    refine tz_cVi (ci := 1) (C := RX1) Z Y hA ⟨Nat.zero_le _, Nat.zero_le _⟩ (kX1_make l D a c u 4 j 0 hW) rfl rfl (cwV 3 Z.1.2.2.2.2 (lw_V q269 q271 qs10 q19 q272) rfl rfl rfl (by decide +kernel) ⟨by decide, by decide⟩) rfl hl.1 rfl (Nat.le_of_ble_eq_true rfl) dX1_parameter_16 (fun H locs Y => ?_)
    exact tz_ri Z hr hlk Y dX1_parameter_19 (by rw [mParam, if_pos c_5] <;> rfl) (by rw [mParam, if_pos c_5] <;> rfl)
  · refine lv_iconst (v := (-1)) hx hb dX1_parameter_8 (by decide) ?_
    refine lv_goto (tgt := 19) hx hb dX1_parameter_9 (by decide) ?_
    exact tz_ri Z hr hlk Y dX1_parameter_19 (by rw [mParam, if_neg c_5] <;> rfl) (by rw [mParam, if_neg c_5] <;> rfl)
set_option maxHeartbeats 4000000 in
set_option maxRecDepth 100000 in
theorem kX1_constant (l : Launch) (D : va_G) (a : Nat → Nat) (c : Nat → ClassId) (u : tzS) (x : Int32) {n t : Nat} (hW : tzWM u n t) : tzMi l yX1_constant cX1_constant 2 .int (tzR 1) D (wX1 a c) (tX1 c) [.ref (a 14), .int x] u ((mConst u x).1) ((mConst u x).2) := by
  refine tzMi.mk RX1 (by decide) rfl (Nat.le_of_ble_eq_true rfl) ?_
  intro p e s m below meth cd A ls Z hr hlk hA Y hl
  have hx := Z.1.1
  have hb := Z.1.2.1
  have hl : lv_has ls 2 [(0, .ref (a 14)), (1, .int x)] := hl
  refine lv_aload_n hx hb dX1_constant_0 rfl (lv_at hl 0 rfl) ?_
  refine lv_iconst (v := 5) hx hb dX1_constant_1 (by decide) ?_
  refine lv_iload_n hx hb dX1_constant_2 rfl (lv_at hl 1 rfl) ?_
  refine lv_iconst (v := 0) hx hb dX1_constant_3 (by decide) ?_
  refine tz_cVi (ci := 1) (C := RX1) Z Y hA ⟨Nat.zero_le _, Nat.zero_le _⟩ (kX1_make l D a c u 5 x 0 hW) rfl rfl (cwV 3 Z.1.2.2.2.2 (lw_V q269 q271 qs10 q19 q272) rfl rfl rfl (by decide +kernel) ⟨by decide, by decide⟩) rfl hl.1 rfl (Nat.le_of_ble_eq_true rfl) dX1_constant_4 (fun H locs Y => ?_)
  exact tz_ri Z hr hlk Y dX1_constant_7 (by rw [mConst] <;> rfl) (by rw [mConst] <;> rfl)
set_option maxHeartbeats 4000000 in
set_option maxRecDepth 100000 in
theorem kX1_combine (l : Launch) (D : va_G) (a : Nat → Nat) (c : Nat → ClassId) (u : tzS) (kd x y : Int32) {n t : Nat} (hW : tzWM u n t) : tzMi l yX1_combine cX1_combine 4 .int (tzR 1) D (wX1 a c) (tX1 c) [.ref (a 14), .int kd, .int x, .int y] u ((mComb u kd x y).1) ((mComb u kd x y).2) := by
  refine tzMi.mk RX1 (by decide) rfl (Nat.le_of_ble_eq_true rfl) ?_
  intro p e s m below meth cd A ls Z hr hlk hA Y hl
  have hx := Z.1.1
  have hb := Z.1.2.1
  have hl : lv_has ls 4 [(0, .ref (a 14)), (1, .int kd), (2, .int x), (3, .int y)] := hl
  refine lv_iload_n hx hb dX1_combine_0 rfl (lv_at hl 1 rfl) ?_
  refine lv_if_lt (tgt := 9) hx hb dX1_combine_1 (by decide) (fun c_1 => ?_) (fun c_1 => ?_)
  · refine lv_iconst (v := (-1)) hx hb dX1_combine_9 (by decide) ?_
    exact tz_ri Z hr hlk Y dX1_combine_10 (by rw [mComb, if_pos c_1] <;> rfl) (by rw [mComb, if_pos c_1] <;> rfl)
  · refine lv_iload_n hx hb dX1_combine_4 rfl (lv_at hl 1 rfl) ?_
    refine lv_iconst (v := 2) hx hb dX1_combine_5 (by decide) ?_
    refine lv_icmp_le (tgt := 11) hx hb dX1_combine_6 (by decide) (fun c_6 => ?_) (fun c_6 => ?_)
    · refine lv_aload_n hx hb dX1_combine_11 rfl (lv_at hl 0 rfl) ?_
      refine x1_geti 0 (by decide) Z Y q218 dX1_combine_12 ?_
      refine lv_bipush (v := 23) hx hb dX1_combine_15 (by decide) ?_
      refine lv_icmp_le (tgt := 23) hx hb dX1_combine_17 (by decide) (fun c_17 => ?_) (fun c_17 => ?_)
      · refine lv_aload_n hx hb dX1_combine_23 rfl (lv_at hl 0 rfl) ?_
        refine lv_iload_n hx hb dX1_combine_24 rfl (lv_at hl 2 rfl) ?_
        refine tz_cVi (ci := 1) (C := RX1) Z Y hA ⟨Nat.zero_le _, Nat.zero_le _⟩ (kX1_badNode l D a c u x) rfl rfl (cwV 1 Z.1.2.2.2.2 (lw_V q281 q283 qs11 q19 q284) rfl rfl rfl (by decide +kernel) ⟨by decide, by decide⟩) rfl hl.1 rfl (Nat.le_of_ble_eq_true rfl) dX1_combine_25 (fun H locs Y => ?_)
        refine lv_if_ne (tgt := 39) hx hb dX1_combine_28 (by decide) (fun c_28 => ?_) (fun c_28 => ?_)
        · refine lv_bipush (v := (-3)) hx hb dX1_combine_39 (by decide) ?_
          exact tz_ri Z hr hlk Y dX1_combine_41 (by rw [mComb, if_neg c_1, if_pos c_6, if_pos c_17, if_neg c_28] <;> rfl) (by rw [mComb, if_neg c_1, if_pos c_6, if_pos c_17, if_neg c_28] <;> rfl)
        · refine lv_aload_n hx hb dX1_combine_31 rfl (lv_at hl 0 rfl) ?_
          refine lv_iload_n hx hb dX1_combine_32 rfl (lv_at hl 3 rfl) ?_
          refine tz_cVi (ci := 1) (C := RX1) Z Y hA ⟨Nat.zero_le _, Nat.zero_le _⟩ (kX1_badNode l D a c u y) rfl rfl (cwV 1 Z.1.2.2.2.2 (lw_V q281 q283 qs11 q19 q284) rfl rfl rfl (by decide +kernel) ⟨by decide, by decide⟩) rfl hl.1 rfl (Nat.le_of_ble_eq_true rfl) dX1_combine_33 (fun H locs Y => ?_)
          refine lv_if_eq (tgt := 42) hx hb dX1_combine_36 (by decide) (fun c_36 => ?_) (fun c_36 => ?_)
          · refine lv_aload_n hx hb dX1_combine_42 rfl (lv_at hl 0 rfl) ?_
            refine lv_iload_n hx hb dX1_combine_43 rfl (lv_at hl 1 rfl) ?_
            refine lv_iload_n hx hb dX1_combine_44 rfl (lv_at hl 2 rfl) ?_
            refine lv_iload_n hx hb dX1_combine_45 rfl (lv_at hl 3 rfl) ?_
            refine tz_cVi (ci := 1) (C := RX1) Z Y hA ⟨Nat.zero_le _, Nat.zero_le _⟩ (kX1_make l D a c u kd x y hW) rfl rfl (cwV 3 Z.1.2.2.2.2 (lw_V q269 q271 qs10 q19 q272) rfl rfl rfl (by decide +kernel) ⟨by decide, by decide⟩) rfl hl.1 rfl (Nat.le_of_ble_eq_true rfl) dX1_combine_46 (fun H locs Y => ?_)
            exact tz_ri Z hr hlk Y dX1_combine_49 (by rw [mComb, if_neg c_1, if_pos c_6, if_pos c_17, if_pos c_28, if_pos c_36] <;> rfl) (by rw [mComb, if_neg c_1, if_pos c_6, if_pos c_17, if_pos c_28, if_pos c_36] <;> rfl)
          · refine lv_bipush (v := (-3)) hx hb dX1_combine_39 (by decide) ?_
            exact tz_ri Z hr hlk Y dX1_combine_41 (by rw [mComb, if_neg c_1, if_pos c_6, if_pos c_17, if_pos c_28, if_neg c_36] <;> rfl) (by rw [mComb, if_neg c_1, if_pos c_6, if_pos c_17, if_pos c_28, if_neg c_36] <;> rfl)
      · refine lv_bipush (v := (-2)) hx hb dX1_combine_20 (by decide) ?_
        exact tz_ri Z hr hlk Y dX1_combine_22 (by rw [mComb, if_neg c_1, if_pos c_6, if_neg c_17] <;> rfl) (by rw [mComb, if_neg c_1, if_pos c_6, if_neg c_17] <;> rfl)
    · refine lv_iconst (v := (-1)) hx hb dX1_combine_9 (by decide) ?_
      exact tz_ri Z hr hlk Y dX1_combine_10 (by rw [mComb, if_neg c_1, if_neg c_6] <;> rfl) (by rw [mComb, if_neg c_1, if_neg c_6] <;> rfl)
set_option maxHeartbeats 4000000 in
set_option maxRecDepth 100000 in
theorem kX1_square (l : Launch) (D : va_G) (a : Nat → Nat) (c : Nat → ClassId) (u : tzS) (x : Int32) {n t : Nat} (hW : tzWM u n t) : tzMi l yX1_square cX1_square 2 .int (tzR 1) D (wX1 a c) (tX1 c) [.ref (a 14), .int x] u ((mSq u x).1) ((mSq u x).2) := by
  refine tzMi.mk RX1 (by decide) rfl (Nat.le_of_ble_eq_true rfl) ?_
  intro p e s m below meth cd A ls Z hr hlk hA Y hl
  have hx := Z.1.1
  have hb := Z.1.2.1
  have hl : lv_has ls 2 [(0, .ref (a 14)), (1, .int x)] := hl
  refine lv_aload_n hx hb dX1_square_0 rfl (lv_at hl 0 rfl) ?_
  refine x1_geti 0 (by decide) Z Y q218 dX1_square_1 ?_
  refine lv_bipush (v := 23) hx hb dX1_square_4 (by decide) ?_
  refine lv_icmp_le (tgt := 12) hx hb dX1_square_6 (by decide) (fun c_6 => ?_) (fun c_6 => ?_)
  · refine lv_aload_n hx hb dX1_square_12 rfl (lv_at hl 0 rfl) ?_
    refine lv_iload_n hx hb dX1_square_13 rfl (lv_at hl 1 rfl) ?_
    refine tz_cVi (ci := 1) (C := RX1) Z Y hA ⟨Nat.zero_le _, Nat.zero_le _⟩ (kX1_badNode l D a c u x) rfl rfl (cwV 1 Z.1.2.2.2.2 (lw_V q281 q283 qs11 q19 q284) rfl rfl rfl (by decide +kernel) ⟨by decide, by decide⟩) rfl hl.1 rfl (Nat.le_of_ble_eq_true rfl) dX1_square_14 (fun H locs Y => ?_)
    refine lv_if_eq (tgt := 23) hx hb dX1_square_17 (by decide) (fun c_17 => ?_) (fun c_17 => ?_)
    · refine lv_aload_n hx hb dX1_square_23 rfl (lv_at hl 0 rfl) ?_
      refine lv_iconst (v := 3) hx hb dX1_square_24 (by decide) ?_
      refine lv_iload_n hx hb dX1_square_25 rfl (lv_at hl 1 rfl) ?_
      refine lv_iload_n hx hb dX1_square_26 rfl (lv_at hl 1 rfl) ?_
      refine tz_cVi (ci := 1) (C := RX1) Z Y hA ⟨Nat.zero_le _, Nat.zero_le _⟩ (kX1_make l D a c u 3 x x hW) rfl rfl (cwV 3 Z.1.2.2.2.2 (lw_V q269 q271 qs10 q19 q272) rfl rfl rfl (by decide +kernel) ⟨by decide, by decide⟩) rfl hl.1 rfl (Nat.le_of_ble_eq_true rfl) dX1_square_27 (fun H locs Y => ?_)
      exact tz_ri Z hr hlk Y dX1_square_30 (by rw [mSq, if_pos c_6, if_pos c_17] <;> rfl) (by rw [mSq, if_pos c_6, if_pos c_17] <;> rfl)
    · refine lv_bipush (v := (-3)) hx hb dX1_square_20 (by decide) ?_
      exact tz_ri Z hr hlk Y dX1_square_22 (by rw [mSq, if_pos c_6, if_neg c_17] <;> rfl) (by rw [mSq, if_pos c_6, if_neg c_17] <;> rfl)
  · refine lv_bipush (v := (-2)) hx hb dX1_square_9 (by decide) ?_
    exact tz_ri Z hr hlk Y dX1_square_11 (by rw [mSq, if_neg c_6] <;> rfl) (by rw [mSq, if_neg c_6] <;> rfl)
set_option maxHeartbeats 4000000 in
set_option maxRecDepth 100000 in
theorem kX1_term (l : Launch) (D : va_G) (a : Nat → Nat) (c : Nat → ClassId) (u : tzS) (k x : Int32) {n t : Nat} (hW : tzWM u n t) : tzMi l yX1_term cX1_term 4 .int (tzR 1) D (wX1 a c) (tX1 c) [.ref (a 14), .int k, .int x] u ((mTerm u k x).1) ((mTerm u k x).2) := by
  refine tzMi.mk RX1 (by decide) rfl (Nat.le_of_ble_eq_true rfl) ?_
  intro p e s m below meth cd A ls Z hr hlk hA Y hl
  have hx := Z.1.1
  have hb := Z.1.2.1
  have hl : lv_has ls 4 [(0, .ref (a 14)), (1, .int k), (2, .int x)] := hl
  refine lv_aload_n hx hb dX1_term_0 rfl (lv_at hl 0 rfl) ?_
  refine lv_iload_n hx hb dX1_term_1 rfl (lv_at hl 1 rfl) ?_
  refine tz_cVi (ci := 1) (C := RX1) Z Y hA ⟨Nat.zero_le _, Nat.zero_le _⟩ (kX1_badNode l D a c u k) rfl rfl (cwV 1 Z.1.2.2.2.2 (lw_V q281 q283 qs11 q19 q284) rfl rfl rfl (by decide +kernel) ⟨by decide, by decide⟩) rfl hl.1 rfl (Nat.le_of_ble_eq_true rfl) dX1_term_2 (fun H locs Y => ?_)
  refine lv_if_eq (tgt := 10) hx hb dX1_term_5 (by decide) (fun c_5 => ?_) (fun c_5 => ?_)
  · refine lv_iload_n hx hb dX1_term_10 rfl (lv_at hl 2 rfl) ?_
    refine lv_bipush (v := (-20)) hx hb dX1_term_11 (by decide) ?_
    refine lv_icmp_lt (tgt := 22) hx hb dX1_term_13 (by decide) (fun c_13 => ?_) (fun c_13 => ?_)
    · refine lv_bipush (v := (-2)) hx hb dX1_term_22 (by decide) ?_
      exact tz_ri Z hr hlk Y dX1_term_24 (by rw [mTerm, if_pos c_5, if_pos c_13] <;> rfl) (by rw [mTerm, if_pos c_5, if_pos c_13] <;> rfl)
    · refine lv_iload_n hx hb dX1_term_16 rfl (lv_at hl 2 rfl) ?_
      refine lv_bipush (v := 20) hx hb dX1_term_17 (by decide) ?_
      refine lv_icmp_le (tgt := 25) hx hb dX1_term_19 (by decide) (fun c_19 => ?_) (fun c_19 => ?_)
      · refine lv_aload_n hx hb dX1_term_25 rfl (lv_at hl 0 rfl) ?_
        refine x1_geti 4 (by decide) Z Y q222 dX1_term_26 ?_
        refine lv_istore_n (lv' := [(3, .int (u 4 0)), (0, .ref (a 14)), (1, .int k), (2, .int x)]) hx hb dX1_term_29 rfl hl (by decide) rfl (fun ls hl => ?_)
        refine lv_iload_n hx hb dX1_term_30 rfl (lv_at hl 0 rfl) ?_
        refine lv_bipush (v := 7) hx hb dX1_term_31 (by decide) ?_
        refine lv_icmp_le (tgt := 39) hx hb dX1_term_33 (by decide) (fun c_33 => ?_) (fun c_33 => ?_)
        · have h8 := tz_le7 hW c_33
          refine lv_aload_n hx hb dX1_term_39 rfl (lv_at hl 1 rfl) ?_
          refine x1_getr 5 (by decide) Z Y q223 dX1_term_40 ?_
          refine lv_iload_n hx hb dX1_term_43 rfl (lv_at hl 0 rfl) ?_
          refine lv_iload_n hx hb dX1_term_44 rfl (lv_at hl 2 rfl) ?_
          refine x1_ast 5 (by decide) (i := tzix (u 4 0)) Z Y h8 dX1_term_45 (fun H locs Y => ?_)
          refine lv_aload_n hx hb dX1_term_46 rfl (lv_at hl 1 rfl) ?_
          refine x1_getr 6 (by decide) Z Y q224 dX1_term_47 ?_
          refine lv_iload_n hx hb dX1_term_50 rfl (lv_at hl 0 rfl) ?_
          refine lv_iload_n hx hb dX1_term_51 rfl (lv_at hl 3 rfl) ?_
          refine x1_ast 6 (by decide) (i := tzix (u 4 0)) Z Y h8 dX1_term_52 (fun H locs Y => ?_)
          refine lv_aload_n hx hb dX1_term_53 rfl (lv_at hl 1 rfl) ?_
          refine lv_iload_n hx hb dX1_term_54 rfl (lv_at hl 0 rfl) ?_
          refine lv_iconst (v := 1) hx hb dX1_term_55 (by decide) ?_
          refine lv_iadd hx hb dX1_term_56 ?_
          refine x1_puti 4 (by decide) Z Y q222 dX1_term_57 (fun H locs Y => ?_)
          refine lv_aload_n hx hb dX1_term_60 rfl (lv_at hl 1 rfl) ?_
          refine x1_geti 4 (by decide) Z Y q222 dX1_term_61 ?_
          exact tz_ri Z hr hlk Y dX1_term_64 (by rw [mTerm, if_pos c_5, if_neg c_13, if_pos c_19, if_pos c_33] <;> rfl) (by rw [mTerm, if_pos c_5, if_neg c_13, if_pos c_19, if_pos c_33] <;> rfl)
        · refine lv_bipush (v := (-3)) hx hb dX1_term_36 (by decide) ?_
          exact tz_ri Z hr hlk Y dX1_term_38 (by rw [mTerm, if_pos c_5, if_neg c_13, if_pos c_19, if_neg c_33] <;> rfl) (by rw [mTerm, if_pos c_5, if_neg c_13, if_pos c_19, if_neg c_33] <;> rfl)
      · refine lv_bipush (v := (-2)) hx hb dX1_term_22 (by decide) ?_
        exact tz_ri Z hr hlk Y dX1_term_24 (by rw [mTerm, if_pos c_5, if_neg c_13, if_neg c_19] <;> rfl) (by rw [mTerm, if_pos c_5, if_neg c_13, if_neg c_19] <;> rfl)
  · refine lv_iconst (v := (-1)) hx hb dX1_term_8 (by decide) ?_
    exact tz_ri Z hr hlk Y dX1_term_9 (by rw [mTerm, if_neg c_5] <;> rfl) (by rw [mTerm, if_neg c_5] <;> rfl)
set_option maxHeartbeats 4000000 in
set_option maxRecDepth 100000 in
theorem kX1_clear (l : Launch) (D : va_G) (a : Nat → Nat) (c : Nat → ClassId) (u : tzS)  : tzMi l yX1_clear cX1_clear 2 .int (tzR 0) D (wX1 a c) (tX1 c) [.ref (a 14)] u ((mClear u).1) ((mClear u).2) := by
  refine tzMi.mk RX1 (by decide) rfl (Nat.le_of_ble_eq_true rfl) ?_
  intro p e s m below meth cd A ls Z hr hlk hA Y hl
  have hx := Z.1.1
  have hb := Z.1.2.1
  have hl : lv_has ls 2 [(0, .ref (a 14))] := hl
  refine lv_aload_n hx hb dX1_clear_0 rfl (lv_at hl 0 rfl) ?_
  refine x1_geti 0 (by decide) Z Y q218 dX1_clear_1 ?_
  refine lv_istore_n (lv' := [(1, .int (u 0 0)), (0, .ref (a 14))]) hx hb dX1_clear_4 rfl hl (by decide) rfl (fun ls hl => ?_)
  refine lv_aload_n hx hb dX1_clear_5 rfl (lv_at hl 1 rfl) ?_
  refine lv_iconst (v := 0) hx hb dX1_clear_6 (by decide) ?_
  refine x1_puti 0 (by decide) Z Y q218 dX1_clear_7 (fun H locs Y => ?_)
  refine lv_aload_n hx hb dX1_clear_10 rfl (lv_at hl 1 rfl) ?_
  refine lv_iconst (v := 0) hx hb dX1_clear_11 (by decide) ?_
  refine x1_puti 4 (by decide) Z Y q222 dX1_clear_12 (fun H locs Y => ?_)
  refine lv_iload_n hx hb dX1_clear_15 rfl (lv_at hl 0 rfl) ?_
  exact tz_ri Z hr hlk Y dX1_clear_16 rfl rfl
set_option maxHeartbeats 4000000 in
set_option maxRecDepth 100000 in
theorem kX1_nodes (l : Launch) (D : va_G) (a : Nat → Nat) (c : Nat → ClassId) (u : tzS)  : tzMi l yX1_nodes cX1_nodes 1 .int (tzR 0) D (wX1 a c) (tX1 c) [.ref (a 14)] u (u 0 0) u := by
  refine tzMi.mk RX1 (by decide) rfl (Nat.le_of_ble_eq_true rfl) ?_
  intro p e s m below meth cd A ls Z hr hlk hA Y hl
  have hx := Z.1.1
  have hb := Z.1.2.1
  have hl : lv_has ls 1 [(0, .ref (a 14))] := hl
  refine lv_aload_n hx hb dX1_nodes_0 rfl (lv_at hl 0 rfl) ?_
  refine x1_geti 0 (by decide) Z Y q218 dX1_nodes_1 ?_
  exact tz_ri Z hr hlk Y dX1_nodes_4 rfl rfl
set_option maxHeartbeats 4000000 in
set_option maxRecDepth 100000 in
theorem kX1_terms (l : Launch) (D : va_G) (a : Nat → Nat) (c : Nat → ClassId) (u : tzS)  : tzMi l yX1_terms cX1_terms 1 .int (tzR 0) D (wX1 a c) (tX1 c) [.ref (a 14)] u (u 4 0) u := by
  refine tzMi.mk RX1 (by decide) rfl (Nat.le_of_ble_eq_true rfl) ?_
  intro p e s m below meth cd A ls Z hr hlk hA Y hl
  have hx := Z.1.1
  have hb := Z.1.2.1
  have hl : lv_has ls 1 [(0, .ref (a 14))] := hl
  refine lv_aload_n hx hb dX1_terms_0 rfl (lv_at hl 0 rfl) ?_
  refine x1_geti 4 (by decide) Z Y q222 dX1_terms_1 ?_
  exact tz_ri Z hr hlk Y dX1_terms_4 rfl rfl
set_option maxHeartbeats 4000000 in
set_option maxRecDepth 100000 in
theorem kX1_place (l : Launch) (D : va_G) (a : Nat → Nat) (c : Nat → ClassId) (u : tzS) (ch j x : Int32) : tzMi l yX1_place cX1_place 4 .int (tzR 1) D (wX1 a c) (tX1 c) [.ref (a 14), .int ch, .int j, .int x] u ((mPlace u ch j x).1) ((mPlace u ch j x).2) := by
  refine tzMi.mk RX1 (by decide) rfl (Nat.le_of_ble_eq_true rfl) ?_
  intro p e s m below meth cd A ls Z hr hlk hA Y hl
  have hx := Z.1.1
  have hb := Z.1.2.1
  have hl : lv_has ls 4 [(0, .ref (a 14)), (1, .int ch), (2, .int j), (3, .int x)] := hl
  refine lv_aload_n hx hb dX1_place_0 rfl (lv_at hl 0 rfl) ?_
  refine lv_iload_n hx hb dX1_place_1 rfl (lv_at hl 1 rfl) ?_
  refine tz_cVi (ci := 1) (C := RX1) Z Y hA ⟨Nat.zero_le _, Nat.zero_le _⟩ (kX1_badChain l D a c u ch) rfl rfl (cwV 1 Z.1.2.2.2.2 (lw_V q309 q311 qs12 q19 q312) rfl rfl rfl (by decide +kernel) ⟨by decide, by decide⟩) rfl hl.1 rfl (Nat.le_of_ble_eq_true rfl) dX1_place_2 (fun H locs Y => ?_)
  refine lv_if_eq (tgt := 10) hx hb dX1_place_5 (by decide) (fun c_5 => ?_) (fun c_5 => ?_)
  · have h1 := tz_bC c_5
    refine lv_aload_n hx hb dX1_place_10 rfl (lv_at hl 0 rfl) ?_
    refine lv_iload_n hx hb dX1_place_11 rfl (lv_at hl 2 rfl) ?_
    refine tz_cVi (ci := 1) (C := RX1) Z Y hA ⟨Nat.zero_le _, Nat.zero_le _⟩ (kX1_badParameter l D a c u j) rfl rfl (cwV 1 Z.1.2.2.2.2 (lw_V q265 q267 qs9 q19 q268) rfl rfl rfl (by decide +kernel) ⟨by decide, by decide⟩) rfl hl.1 rfl (Nat.le_of_ble_eq_true rfl) dX1_place_12 (fun H locs Y => ?_)
    refine lv_if_eq (tgt := 21) hx hb dX1_place_15 (by decide) (fun c_15 => ?_) (fun c_15 => ?_)
    · have h2 := tz_bP c_15
      refine lv_aload_n hx hb dX1_place_21 rfl (lv_at hl 0 rfl) ?_
      refine x1_getr 8 (by decide) Z Y q226 dX1_place_22 ?_
      refine lv_iconst (v := 4) hx hb dX1_place_25 (by decide) ?_
      refine lv_iload_n hx hb dX1_place_26 rfl (lv_at hl 1 rfl) ?_
      refine lv_imul hx hb dX1_place_27 ?_
      refine lv_iload_n hx hb dX1_place_28 rfl (lv_at hl 2 rfl) ?_
      refine lv_iadd hx hb dX1_place_29 ?_
      refine lv_iload_n hx hb dX1_place_30 rfl (lv_at hl 3 rfl) ?_
      refine x1_ast 8 (by decide) (i := 4 * tzix ch + tzix j) Z Y (tz_4 h1 h2) dX1_place_31 (fun H locs Y => ?_)
      refine lv_iconst (v := 0) hx hb dX1_place_32 (by decide) ?_
      exact tz_ri Z hr hlk Y dX1_place_33 (by rw [mPlace, if_pos c_5, if_pos c_15] <;> rfl) (by rw [mPlace, if_pos c_5, if_pos c_15] <;> rfl)
    · refine lv_bipush (v := (-2)) hx hb dX1_place_18 (by decide) ?_
      exact tz_ri Z hr hlk Y dX1_place_20 (by rw [mPlace, if_pos c_5, if_neg c_15] <;> rfl) (by rw [mPlace, if_pos c_5, if_neg c_15] <;> rfl)
  · refine lv_iconst (v := (-1)) hx hb dX1_place_8 (by decide) ?_
    exact tz_ri Z hr hlk Y dX1_place_9 (by rw [mPlace, if_neg c_5] <;> rfl) (by rw [mPlace, if_neg c_5] <;> rfl)
set_option maxHeartbeats 4000000 in
set_option maxRecDepth 100000 in
theorem kX1_push (l : Launch) (D : va_G) (a : Nat → Nat) (c : Nat → ClassId) (u : tzS) (ch j x : Int32) : tzMi l yX1_push cX1_push 4 .int (tzR 1) D (wX1 a c) (tX1 c) [.ref (a 14), .int ch, .int j, .int x] u ((mPush u ch j x).1) ((mPush u ch j x).2) := by
  refine tzMi.mk RX1 (by decide) rfl (Nat.le_of_ble_eq_true rfl) ?_
  intro p e s m below meth cd A ls Z hr hlk hA Y hl
  have hx := Z.1.1
  have hb := Z.1.2.1
  have hl : lv_has ls 4 [(0, .ref (a 14)), (1, .int ch), (2, .int j), (3, .int x)] := hl
  refine lv_aload_n hx hb dX1_push_0 rfl (lv_at hl 0 rfl) ?_
  refine lv_iload_n hx hb dX1_push_1 rfl (lv_at hl 1 rfl) ?_
  refine tz_cVi (ci := 1) (C := RX1) Z Y hA ⟨Nat.zero_le _, Nat.zero_le _⟩ (kX1_badChain l D a c u ch) rfl rfl (cwV 1 Z.1.2.2.2.2 (lw_V q309 q311 qs12 q19 q312) rfl rfl rfl (by decide +kernel) ⟨by decide, by decide⟩) rfl hl.1 rfl (Nat.le_of_ble_eq_true rfl) dX1_push_2 (fun H locs Y => ?_)
  refine lv_if_eq (tgt := 10) hx hb dX1_push_5 (by decide) (fun c_5 => ?_) (fun c_5 => ?_)
  · have h1 := tz_bC c_5
    refine lv_aload_n hx hb dX1_push_10 rfl (lv_at hl 0 rfl) ?_
    refine lv_iload_n hx hb dX1_push_11 rfl (lv_at hl 2 rfl) ?_
    refine tz_cVi (ci := 1) (C := RX1) Z Y hA ⟨Nat.zero_le _, Nat.zero_le _⟩ (kX1_badParameter l D a c u j) rfl rfl (cwV 1 Z.1.2.2.2.2 (lw_V q265 q267 qs9 q19 q268) rfl rfl rfl (by decide +kernel) ⟨by decide, by decide⟩) rfl hl.1 rfl (Nat.le_of_ble_eq_true rfl) dX1_push_12 (fun H locs Y => ?_)
    refine lv_if_eq (tgt := 21) hx hb dX1_push_15 (by decide) (fun c_15 => ?_) (fun c_15 => ?_)
    · have h2 := tz_bP c_15
      refine lv_aload_n hx hb dX1_push_21 rfl (lv_at hl 0 rfl) ?_
      refine x1_getr 9 (by decide) Z Y q227 dX1_push_22 ?_
      refine lv_iconst (v := 4) hx hb dX1_push_25 (by decide) ?_
      refine lv_iload_n hx hb dX1_push_26 rfl (lv_at hl 1 rfl) ?_
      refine lv_imul hx hb dX1_push_27 ?_
      refine lv_iload_n hx hb dX1_push_28 rfl (lv_at hl 2 rfl) ?_
      refine lv_iadd hx hb dX1_push_29 ?_
      refine lv_iload_n hx hb dX1_push_30 rfl (lv_at hl 3 rfl) ?_
      refine x1_ast 9 (by decide) (i := 4 * tzix ch + tzix j) Z Y (tz_4 h1 h2) dX1_push_31 (fun H locs Y => ?_)
      refine lv_iconst (v := 0) hx hb dX1_push_32 (by decide) ?_
      exact tz_ri Z hr hlk Y dX1_push_33 (by rw [mPush, if_pos c_5, if_pos c_15] <;> rfl) (by rw [mPush, if_pos c_5, if_pos c_15] <;> rfl)
    · refine lv_bipush (v := (-2)) hx hb dX1_push_18 (by decide) ?_
      exact tz_ri Z hr hlk Y dX1_push_20 (by rw [mPush, if_pos c_5, if_neg c_15] <;> rfl) (by rw [mPush, if_pos c_5, if_neg c_15] <;> rfl)
  · refine lv_iconst (v := (-1)) hx hb dX1_push_8 (by decide) ?_
    exact tz_ri Z hr hlk Y dX1_push_9 (by rw [mPush, if_neg c_5] <;> rfl) (by rw [mPush, if_neg c_5] <;> rfl)
set_option maxHeartbeats 4000000 in
set_option maxRecDepth 100000 in
theorem kX1_shift (l : Launch) (D : va_G) (a : Nat → Nat) (c : Nat → ClassId) (u : tzS) (x : Int32) : tzMi l yX1_shift cX1_shift 3 .int (tzR 0) D (wX1 a c) (tX1 c) [.ref (a 14), .int x] u ((mShift u x).1) ((mShift u x).2) := by
  refine tzMi.mk RX1 (by decide) rfl (Nat.le_of_ble_eq_true rfl) ?_
  intro p e s m below meth cd A ls Z hr hlk hA Y hl
  have hx := Z.1.1
  have hb := Z.1.2.1
  have hl : lv_has ls 3 [(0, .ref (a 14)), (1, .int x)] := hl
  refine lv_iload_n hx hb dX1_shift_0 rfl (lv_at hl 1 rfl) ?_
  refine lv_if_lt (tgt := 10) hx hb dX1_shift_1 (by decide) (fun c_1 => ?_) (fun c_1 => ?_)
  · refine lv_iconst (v := (-1)) hx hb dX1_shift_10 (by decide) ?_
    exact tz_ri Z hr hlk Y dX1_shift_11 (by rw [mShift, if_pos c_1] <;> rfl) (by rw [mShift, if_pos c_1] <;> rfl)
  · refine lv_iload_n hx hb dX1_shift_4 rfl (lv_at hl 1 rfl) ?_
    refine lv_bipush (v := 20) hx hb dX1_shift_5 (by decide) ?_
    refine lv_icmp_le (tgt := 12) hx hb dX1_shift_7 (by decide) (fun c_7 => ?_) (fun c_7 => ?_)
    · refine lv_aload_n hx hb dX1_shift_12 rfl (lv_at hl 0 rfl) ?_
      refine x1_geti 7 (by decide) Z Y q225 dX1_shift_13 ?_
      refine lv_istore_n (lv' := [(2, .int (u 7 0)), (0, .ref (a 14)), (1, .int x)]) hx hb dX1_shift_16 rfl hl (by decide) rfl (fun ls hl => ?_)
      refine lv_aload_n hx hb dX1_shift_17 rfl (lv_at hl 1 rfl) ?_
      refine lv_iload_n hx hb dX1_shift_18 rfl (lv_at hl 2 rfl) ?_
      refine x1_puti 7 (by decide) Z Y q225 dX1_shift_19 (fun H locs Y => ?_)
      refine lv_iload_n hx hb dX1_shift_22 rfl (lv_at hl 0 rfl) ?_
      exact tz_ri Z hr hlk Y dX1_shift_23 (by rw [mShift, if_neg c_1, if_pos c_7] <;> rfl) (by rw [mShift, if_neg c_1, if_pos c_7] <;> rfl)
    · refine lv_iconst (v := (-1)) hx hb dX1_shift_10 (by decide) ?_
      exact tz_ri Z hr hlk Y dX1_shift_11 (by rw [mShift, if_neg c_1, if_neg c_7] <;> rfl) (by rw [mShift, if_neg c_1, if_neg c_7] <;> rfl)
set_option maxHeartbeats 4000000 in
set_option maxRecDepth 100000 in
theorem kX1_position (l : Launch) (D : va_G) (a : Nat → Nat) (c : Nat → ClassId) (u : tzS) (ch j : Int32) : tzMi l yX1_position cX1_position 3 .int (tzR 1) D (wX1 a c) (tX1 c) [.ref (a 14), .int ch, .int j] u (mPos u ch j) u := by
  refine tzMi.mk RX1 (by decide) rfl (Nat.le_of_ble_eq_true rfl) ?_
  intro p e s m below meth cd A ls Z hr hlk hA Y hl
  have hx := Z.1.1
  have hb := Z.1.2.1
  have hl : lv_has ls 3 [(0, .ref (a 14)), (1, .int ch), (2, .int j)] := hl
  refine lv_aload_n hx hb dX1_position_0 rfl (lv_at hl 0 rfl) ?_
  refine lv_iload_n hx hb dX1_position_1 rfl (lv_at hl 1 rfl) ?_
  refine tz_cVi (ci := 1) (C := RX1) Z Y hA ⟨Nat.zero_le _, Nat.zero_le _⟩ (kX1_badChain l D a c u ch) rfl rfl (cwV 1 Z.1.2.2.2.2 (lw_V q309 q311 qs12 q19 q312) rfl rfl rfl (by decide +kernel) ⟨by decide, by decide⟩) rfl hl.1 rfl (Nat.le_of_ble_eq_true rfl) dX1_position_2 (fun H locs Y => ?_)
  refine lv_if_ne (tgt := 16) hx hb dX1_position_5 (by decide) (fun c_5 => ?_) (fun c_5 => ?_)
  · refine lv_iconst (v := 0) hx hb dX1_position_16 (by decide) ?_
    refine lv_goto (tgt := 30) hx hb dX1_position_17 (by decide) ?_
    exact tz_ri Z hr hlk Y dX1_position_30 (by rw [mPos, if_neg c_5] <;> rfl) rfl
  · have h1 := tz_bC c_5
    refine lv_aload_n hx hb dX1_position_8 rfl (lv_at hl 0 rfl) ?_
    refine lv_iload_n hx hb dX1_position_9 rfl (lv_at hl 2 rfl) ?_
    refine tz_cVi (ci := 1) (C := RX1) Z Y hA ⟨Nat.zero_le _, Nat.zero_le _⟩ (kX1_badParameter l D a c u j) rfl rfl (cwV 1 Z.1.2.2.2.2 (lw_V q265 q267 qs9 q19 q268) rfl rfl rfl (by decide +kernel) ⟨by decide, by decide⟩) rfl hl.1 rfl (Nat.le_of_ble_eq_true rfl) dX1_position_10 (fun H locs Y => ?_)
    refine lv_if_eq (tgt := 20) hx hb dX1_position_13 (by decide) (fun c_13 => ?_) (fun c_13 => ?_)
    · have h2 := tz_bP c_13
      refine lv_aload_n hx hb dX1_position_20 rfl (lv_at hl 0 rfl) ?_
      refine x1_getr 8 (by decide) Z Y q226 dX1_position_21 ?_
      refine lv_iconst (v := 4) hx hb dX1_position_24 (by decide) ?_
      refine lv_iload_n hx hb dX1_position_25 rfl (lv_at hl 1 rfl) ?_
      refine lv_imul hx hb dX1_position_26 ?_
      refine lv_iload_n hx hb dX1_position_27 rfl (lv_at hl 2 rfl) ?_
      refine lv_iadd hx hb dX1_position_28 ?_
      refine x1_ald 8 (by decide) (i := 4 * tzix ch + tzix j) Z Y (tz_4 h1 h2) dX1_position_29 ?_
      exact tz_ri Z hr hlk Y dX1_position_30 (by rw [mPos, if_pos c_5, if_pos c_13] <;> rfl) rfl
    · refine lv_iconst (v := 0) hx hb dX1_position_16 (by decide) ?_
      refine lv_goto (tgt := 30) hx hb dX1_position_17 (by decide) ?_
      exact tz_ri Z hr hlk Y dX1_position_30 (by rw [mPos, if_pos c_5, if_neg c_13] <;> rfl) rfl
set_option maxHeartbeats 4000000 in
set_option maxRecDepth 100000 in
theorem kX1_momentum (l : Launch) (D : va_G) (a : Nat → Nat) (c : Nat → ClassId) (u : tzS) (ch j : Int32) : tzMi l yX1_momentum cX1_momentum 3 .int (tzR 1) D (wX1 a c) (tX1 c) [.ref (a 14), .int ch, .int j] u (mMom u ch j) u := by
  refine tzMi.mk RX1 (by decide) rfl (Nat.le_of_ble_eq_true rfl) ?_
  intro p e s m below meth cd A ls Z hr hlk hA Y hl
  have hx := Z.1.1
  have hb := Z.1.2.1
  have hl : lv_has ls 3 [(0, .ref (a 14)), (1, .int ch), (2, .int j)] := hl
  refine lv_aload_n hx hb dX1_momentum_0 rfl (lv_at hl 0 rfl) ?_
  refine lv_iload_n hx hb dX1_momentum_1 rfl (lv_at hl 1 rfl) ?_
  refine tz_cVi (ci := 1) (C := RX1) Z Y hA ⟨Nat.zero_le _, Nat.zero_le _⟩ (kX1_badChain l D a c u ch) rfl rfl (cwV 1 Z.1.2.2.2.2 (lw_V q309 q311 qs12 q19 q312) rfl rfl rfl (by decide +kernel) ⟨by decide, by decide⟩) rfl hl.1 rfl (Nat.le_of_ble_eq_true rfl) dX1_momentum_2 (fun H locs Y => ?_)
  refine lv_if_ne (tgt := 16) hx hb dX1_momentum_5 (by decide) (fun c_5 => ?_) (fun c_5 => ?_)
  · refine lv_iconst (v := 0) hx hb dX1_momentum_16 (by decide) ?_
    refine lv_goto (tgt := 30) hx hb dX1_momentum_17 (by decide) ?_
    exact tz_ri Z hr hlk Y dX1_momentum_30 (by rw [mMom, if_neg c_5] <;> rfl) rfl
  · have h1 := tz_bC c_5
    refine lv_aload_n hx hb dX1_momentum_8 rfl (lv_at hl 0 rfl) ?_
    refine lv_iload_n hx hb dX1_momentum_9 rfl (lv_at hl 2 rfl) ?_
    refine tz_cVi (ci := 1) (C := RX1) Z Y hA ⟨Nat.zero_le _, Nat.zero_le _⟩ (kX1_badParameter l D a c u j) rfl rfl (cwV 1 Z.1.2.2.2.2 (lw_V q265 q267 qs9 q19 q268) rfl rfl rfl (by decide +kernel) ⟨by decide, by decide⟩) rfl hl.1 rfl (Nat.le_of_ble_eq_true rfl) dX1_momentum_10 (fun H locs Y => ?_)
    refine lv_if_eq (tgt := 20) hx hb dX1_momentum_13 (by decide) (fun c_13 => ?_) (fun c_13 => ?_)
    · have h2 := tz_bP c_13
      refine lv_aload_n hx hb dX1_momentum_20 rfl (lv_at hl 0 rfl) ?_
      refine x1_getr 9 (by decide) Z Y q227 dX1_momentum_21 ?_
      refine lv_iconst (v := 4) hx hb dX1_momentum_24 (by decide) ?_
      refine lv_iload_n hx hb dX1_momentum_25 rfl (lv_at hl 1 rfl) ?_
      refine lv_imul hx hb dX1_momentum_26 ?_
      refine lv_iload_n hx hb dX1_momentum_27 rfl (lv_at hl 2 rfl) ?_
      refine lv_iadd hx hb dX1_momentum_28 ?_
      refine x1_ald 9 (by decide) (i := 4 * tzix ch + tzix j) Z Y (tz_4 h1 h2) dX1_momentum_29 ?_
      exact tz_ri Z hr hlk Y dX1_momentum_30 (by rw [mMom, if_pos c_5, if_pos c_13] <;> rfl) rfl
    · refine lv_iconst (v := 0) hx hb dX1_momentum_16 (by decide) ?_
      refine lv_goto (tgt := 30) hx hb dX1_momentum_17 (by decide) ?_
      exact tz_ri Z hr hlk Y dX1_momentum_30 (by rw [mMom, if_pos c_5, if_neg c_13] <;> rfl) rfl
end
section
set_option maxRecDepth 100000
set_option maxHeartbeats 4000000 in
set_option maxRecDepth 100000 in
theorem kX1_work (l : Launch) (D : va_G) (a : Nat → Nat) (c : Nat → ClassId) (u : tzS) (x y : Int32) {q n t : Nat} (hq : tzat x q 3) (hW : tzWM u n t) : tzMv l yX1_work cX1_work 6 (tzR 0) D (wX1 a c) (tX1 c) [.ref (a 14), .int x, .int y] u (mWork u (4 * q) y) := by
  refine tzMv.mk RX1 (by decide) rfl (Nat.le_of_ble_eq_true rfl) ?_
  intro p e s m below meth cd A ls Z hr hlk hA Y hl
  have hx := Z.1.1
  have hb := Z.1.2.1
  have hl : lv_has ls 6 [(0, .ref (a 14)), (1, .int x), (2, .int y)] := hl
  have n24 : n ≤ 24 := hW.2.1
  have t8 : t ≤ 8 := hW.2.2.2.1
  refine lv_iconst (v := nI 0) hx hb dX1_work_0 (by decide) ?_
  refine lv_istore_n (lv' := [(3, .int (nI 0)), (0, .ref (a 14)), (1, .int x), (2, .int y)]) hx hb dX1_work_1 rfl hl (by decide) rfl (fun ls hl => ?_)
  refine tz_loop (G := fun k H locs ls => tzY D A s.heap (wX1 a c (tzit (mWk1 (4 * q) y) k u)) H locs ∧ lv_has ls 6 [(0, .ref (a 14)), (1, .int x), (2, .int y), (3, .int (nI k))]) n ?_ ?_ ⟨by rw [tzit_0]; exact Y, lv_sub hl [1, 2, 3, 0] rfl⟩
  · rintro k H locs ls hi ⟨Y, hl⟩ ih
    have w9 : tzWM (tzit (mWk1 (4 * q) y) k u) n t := hW.kp (mWkI_kp u _ y k) (by decide)
    refine lv_iload_n hx hb dX1_work_2 rfl (lv_at hl 3 rfl) ?_
    refine lv_aload_n hx hb dX1_work_3 rfl (lv_at hl 0 rfl) ?_
    refine x1_geti 0 (by decide) Z Y q218 dX1_work_4 ?_
    refine tz_top (y := nI n) w9.1 ?_
    refine lv_icmp_ge (tgt := 280) hx hb dX1_work_7 (by decide) (fun c9 => absurd c9 (nI_ge hi (by omega))) (fun _ => ?_)
    refine lv_iload_n hx hb dX1_work_10 rfl (lv_at hl 3 rfl) ?_
    refine lv_bipush (v := nI 24) hx hb dX1_work_11 (by decide) ?_
    refine lv_icmp_ge (tgt := 280) hx hb dX1_work_13 (by decide) (fun c9 => absurd c9 (nI_ge (show k < 24 by omega) (by omega))) (fun _ => ?_)
    refine lv_aload_n hx hb dX1_work_16 rfl (lv_at hl 0 rfl) ?_
    refine x1_getr 2 (by decide) Z Y q220 dX1_work_17 ?_
    refine lv_iload_n hx hb dX1_work_20 rfl (lv_at hl 3 rfl) ?_
    refine x1_ald 2 (by decide) (i := k) Z Y (tzat_nI (show _ < 24 by omega)) dX1_work_21 ?_
    refine lv_istore (lv' := [(4, .int ((tzit (mWk1 (4 * q) y) k u) 2 k)), (0, .ref (a 14)), (1, .int x), (2, .int y), (3, .int (nI k))]) hx hb dX1_work_22 hl (by decide) rfl (fun ls hl => ?_)
    refine lv_aload_n hx hb dX1_work_24 rfl (lv_at hl 1 rfl) ?_
    refine x1_getr 3 (by decide) Z Y q221 dX1_work_25 ?_
    refine lv_iload_n hx hb dX1_work_28 rfl (lv_at hl 4 rfl) ?_
    refine x1_ald 3 (by decide) (i := k) Z Y (tzat_nI (show _ < 24 by omega)) dX1_work_29 ?_
    refine lv_istore (lv' := [(5, .int ((tzit (mWk1 (4 * q) y) k u) 3 k)), (4, .int ((tzit (mWk1 (4 * q) y) k u) 2 k)), (0, .ref (a 14)), (1, .int x), (2, .int y), (3, .int (nI k))]) hx hb dX1_work_30 hl (by decide) rfl (fun ls hl => ?_)
    refine lv_aload_n hx hb dX1_work_32 rfl (lv_at hl 2 rfl) ?_
    refine x1_getr 1 (by decide) Z Y q219 dX1_work_33 ?_
    refine lv_iload_n hx hb dX1_work_36 rfl (lv_at hl 5 rfl) ?_
    refine x1_ald 1 (by decide) (i := k) Z Y (tzat_nI (show _ < 24 by omega)) dX1_work_37 ?_
    refine lv_iconst (v := 4) hx hb dX1_work_38 (by decide) ?_
    refine lv_icmp_ne (tgt := 79) hx hb dX1_work_39 (by decide) (fun c_39 => ?_) (fun c_39 => ?_)
    · refine lv_aload_n hx hb dX1_work_79 rfl (lv_at hl 2 rfl) ?_
      refine x1_getr 1 (by decide) Z Y q219 dX1_work_80 ?_
      refine lv_iload_n hx hb dX1_work_83 rfl (lv_at hl 5 rfl) ?_
      refine x1_ald 1 (by decide) (i := k) Z Y (tzat_nI (show _ < 24 by omega)) dX1_work_84 ?_
      refine lv_iconst (v := 5) hx hb dX1_work_85 (by decide) ?_
      refine lv_icmp_ne (tgt := 107) hx hb dX1_work_86 (by decide) (fun c_86 => ?_) (fun c_86 => ?_)
      · have h1 := ((w9.nd hi).c c_39 c_86).1.le (show k ≤ 24 by omega)
        have h2 := ((w9.nd hi).c c_39 c_86).2.le (show k ≤ 24 by omega)
        refine lv_aload_n hx hb dX1_work_107 rfl (lv_at hl 2 rfl) ?_
        refine x1_getr 1 (by decide) Z Y q219 dX1_work_108 ?_
        refine lv_iload_n hx hb dX1_work_111 rfl (lv_at hl 5 rfl) ?_
        refine x1_ald 1 (by decide) (i := k) Z Y (tzat_nI (show _ < 24 by omega)) dX1_work_112 ?_
        refine lv_if_ne (tgt := 161) hx hb dX1_work_113 (by decide) (fun c_113 => ?_) (fun c_113 => ?_)
        · refine lv_aload_n hx hb dX1_work_161 rfl (lv_at hl 2 rfl) ?_
          refine x1_getr 1 (by decide) Z Y q219 dX1_work_162 ?_
          refine lv_iload_n hx hb dX1_work_165 rfl (lv_at hl 5 rfl) ?_
          refine x1_ald 1 (by decide) (i := k) Z Y (tzat_nI (show _ < 24 by omega)) dX1_work_166 ?_
          refine lv_iconst (v := 1) hx hb dX1_work_167 (by decide) ?_
          refine lv_icmp_ne (tgt := 216) hx hb dX1_work_168 (by decide) (fun c_168 => ?_) (fun c_168 => ?_)
          · refine lv_aload_n hx hb dX1_work_216 rfl (lv_at hl 2 rfl) ?_
            refine x1_getr 10 (by decide) Z Y q228 dX1_work_217 ?_
            refine lv_iload_n hx hb dX1_work_220 rfl (lv_at hl 5 rfl) ?_
            refine lv_aload_n hx hb dX1_work_221 rfl (lv_at hl 2 rfl) ?_
            refine x1_getr 10 (by decide) Z Y q228 dX1_work_222 ?_
            refine lv_iload hx hb dX1_work_225 (lv_at hl 1 rfl) ?_
            refine x1_ald 10 (by decide) (i := tzix ((tzit (mWk1 (4 * q) y) k u) 2 k)) Z Y h1 dX1_work_227 ?_
            refine lv_aload_n hx hb dX1_work_228 rfl (lv_at hl 2 rfl) ?_
            refine x1_getr 10 (by decide) Z Y q228 dX1_work_229 ?_
            refine lv_iload hx hb dX1_work_232 (lv_at hl 0 rfl) ?_
            refine x1_ald 10 (by decide) (i := tzix ((tzit (mWk1 (4 * q) y) k u) 3 k)) Z Y h2 dX1_work_234 ?_
            refine lv_imul hx hb dX1_work_235 ?_
            refine x1_ast 10 (by decide) (i := k) Z Y (tzat_nI (show _ < 24 by omega)) dX1_work_236 (fun H locs Y => ?_)
            refine lv_aload_n hx hb dX1_work_237 rfl (lv_at hl 2 rfl) ?_
            refine x1_getr 11 (by decide) Z Y q229 dX1_work_238 ?_
            refine lv_iload_n hx hb dX1_work_241 rfl (lv_at hl 5 rfl) ?_
            refine lv_aload_n hx hb dX1_work_242 rfl (lv_at hl 2 rfl) ?_
            refine x1_getr 11 (by decide) Z Y q229 dX1_work_243 ?_
            refine lv_iload hx hb dX1_work_246 (lv_at hl 1 rfl) ?_
            refine x1_ald 11 (by decide) (i := tzix ((tzit (mWk1 (4 * q) y) k u) 2 k)) Z Y h1 dX1_work_248 ?_
            refine lv_aload_n hx hb dX1_work_249 rfl (lv_at hl 2 rfl) ?_
            refine x1_getr 10 (by decide) Z Y q228 dX1_work_250 ?_
            refine lv_iload hx hb dX1_work_253 (lv_at hl 0 rfl) ?_
            refine x1_ald 10 (by decide) (i := tzix ((tzit (mWk1 (4 * q) y) k u) 3 k)) Z Y h2 dX1_work_255 ?_
            refine lv_imul hx hb dX1_work_256 ?_
            refine lv_aload_n hx hb dX1_work_257 rfl (lv_at hl 2 rfl) ?_
            refine x1_getr 10 (by decide) Z Y q228 dX1_work_258 ?_
            refine lv_iload hx hb dX1_work_261 (lv_at hl 1 rfl) ?_
            refine x1_ald 10 (by decide) (i := tzix ((tzit (mWk1 (4 * q) y) k u) 2 k)) Z Y h1 dX1_work_263 ?_
            refine lv_aload_n hx hb dX1_work_264 rfl (lv_at hl 2 rfl) ?_
            refine x1_getr 11 (by decide) Z Y q229 dX1_work_265 ?_
            refine lv_iload hx hb dX1_work_268 (lv_at hl 0 rfl) ?_
            refine x1_ald 11 (by decide) (i := tzix ((tzit (mWk1 (4 * q) y) k u) 3 k)) Z Y h2 dX1_work_270 ?_
            refine lv_imul hx hb dX1_work_271 ?_
            refine lv_iadd hx hb dX1_work_272 ?_
            refine x1_ast 11 (by decide) (i := k) Z Y (tzat_nI (show _ < 24 by omega)) dX1_work_273 (fun H locs Y => ?_)
            refine lv_iinc (v := nI (k + 1)) (lv' := [(3, .int (nI (k + 1))), (5, .int ((tzit (mWk1 (4 * q) y) k u) 3 k)), (4, .int ((tzit (mWk1 (4 * q) y) k u) 2 k)), (0, .ref (a 14)), (1, .int x), (2, .int y)]) hx hb dX1_work_274 hl (k := 5) rfl (tz_inc k) (by decide) rfl (fun ls hl => ?_)
            refine lv_goto (tgt := 2) hx hb dX1_work_277 (by decide) ?_
            have e9 : tzit (mWk1 (4 * q) y) (k + 1) u = tzst (tzst (tzit (mWk1 (4 * q) y) k u) 10 k (((tzit (mWk1 (4 * q) y) k u) 10 (tzix ((tzit (mWk1 (4 * q) y) k u) 2 k))) * ((tzit (mWk1 (4 * q) y) k u) 10 (tzix ((tzit (mWk1 (4 * q) y) k u) 3 k))))) 11 k ((((tzst (tzit (mWk1 (4 * q) y) k u) 10 k (((tzit (mWk1 (4 * q) y) k u) 10 (tzix ((tzit (mWk1 (4 * q) y) k u) 2 k))) * ((tzit (mWk1 (4 * q) y) k u) 10 (tzix ((tzit (mWk1 (4 * q) y) k u) 3 k))))) 11 (tzix ((tzit (mWk1 (4 * q) y) k u) 2 k))) * ((tzst (tzit (mWk1 (4 * q) y) k u) 10 k (((tzit (mWk1 (4 * q) y) k u) 10 (tzix ((tzit (mWk1 (4 * q) y) k u) 2 k))) * ((tzit (mWk1 (4 * q) y) k u) 10 (tzix ((tzit (mWk1 (4 * q) y) k u) 3 k))))) 10 (tzix ((tzit (mWk1 (4 * q) y) k u) 3 k)))) + (((tzst (tzit (mWk1 (4 * q) y) k u) 10 k (((tzit (mWk1 (4 * q) y) k u) 10 (tzix ((tzit (mWk1 (4 * q) y) k u) 2 k))) * ((tzit (mWk1 (4 * q) y) k u) 10 (tzix ((tzit (mWk1 (4 * q) y) k u) 3 k))))) 10 (tzix ((tzit (mWk1 (4 * q) y) k u) 2 k))) * ((tzst (tzit (mWk1 (4 * q) y) k u) 10 k (((tzit (mWk1 (4 * q) y) k u) 10 (tzix ((tzit (mWk1 (4 * q) y) k u) 2 k))) * ((tzit (mWk1 (4 * q) y) k u) 10 (tzix ((tzit (mWk1 (4 * q) y) k u) 3 k))))) 11 (tzix ((tzit (mWk1 (4 * q) y) k u) 3 k))))) := by
              rw [tzit_s, mWk1, if_neg c_39, if_neg c_86, if_neg c_113, if_neg c_168] <;> rfl
            exact ih _ _ _ ⟨by rw [e9]; exact Y, lv_sub hl [3, 4, 5, 0] rfl⟩
          · refine lv_aload_n hx hb dX1_work_171 rfl (lv_at hl 2 rfl) ?_
            refine x1_getr 10 (by decide) Z Y q228 dX1_work_172 ?_
            refine lv_iload_n hx hb dX1_work_175 rfl (lv_at hl 5 rfl) ?_
            refine lv_aload_n hx hb dX1_work_176 rfl (lv_at hl 2 rfl) ?_
            refine x1_getr 10 (by decide) Z Y q228 dX1_work_177 ?_
            refine lv_iload hx hb dX1_work_180 (lv_at hl 1 rfl) ?_
            refine x1_ald 10 (by decide) (i := tzix ((tzit (mWk1 (4 * q) y) k u) 2 k)) Z Y h1 dX1_work_182 ?_
            refine lv_aload_n hx hb dX1_work_183 rfl (lv_at hl 2 rfl) ?_
            refine x1_getr 10 (by decide) Z Y q228 dX1_work_184 ?_
            refine lv_iload hx hb dX1_work_187 (lv_at hl 0 rfl) ?_
            refine x1_ald 10 (by decide) (i := tzix ((tzit (mWk1 (4 * q) y) k u) 3 k)) Z Y h2 dX1_work_189 ?_
            refine lv_isub hx hb dX1_work_190 ?_
            refine x1_ast 10 (by decide) (i := k) Z Y (tzat_nI (show _ < 24 by omega)) dX1_work_191 (fun H locs Y => ?_)
            refine lv_aload_n hx hb dX1_work_192 rfl (lv_at hl 2 rfl) ?_
            refine x1_getr 11 (by decide) Z Y q229 dX1_work_193 ?_
            refine lv_iload_n hx hb dX1_work_196 rfl (lv_at hl 5 rfl) ?_
            refine lv_aload_n hx hb dX1_work_197 rfl (lv_at hl 2 rfl) ?_
            refine x1_getr 11 (by decide) Z Y q229 dX1_work_198 ?_
            refine lv_iload hx hb dX1_work_201 (lv_at hl 1 rfl) ?_
            refine x1_ald 11 (by decide) (i := tzix ((tzit (mWk1 (4 * q) y) k u) 2 k)) Z Y h1 dX1_work_203 ?_
            refine lv_aload_n hx hb dX1_work_204 rfl (lv_at hl 2 rfl) ?_
            refine x1_getr 11 (by decide) Z Y q229 dX1_work_205 ?_
            refine lv_iload hx hb dX1_work_208 (lv_at hl 0 rfl) ?_
            refine x1_ald 11 (by decide) (i := tzix ((tzit (mWk1 (4 * q) y) k u) 3 k)) Z Y h2 dX1_work_210 ?_
            refine lv_isub hx hb dX1_work_211 ?_
            refine x1_ast 11 (by decide) (i := k) Z Y (tzat_nI (show _ < 24 by omega)) dX1_work_212 (fun H locs Y => ?_)
            refine lv_goto (tgt := 274) hx hb dX1_work_213 (by decide) ?_
            refine lv_iinc (v := nI (k + 1)) (lv' := [(3, .int (nI (k + 1))), (5, .int ((tzit (mWk1 (4 * q) y) k u) 3 k)), (4, .int ((tzit (mWk1 (4 * q) y) k u) 2 k)), (0, .ref (a 14)), (1, .int x), (2, .int y)]) hx hb dX1_work_274 hl (k := 5) rfl (tz_inc k) (by decide) rfl (fun ls hl => ?_)
            refine lv_goto (tgt := 2) hx hb dX1_work_277 (by decide) ?_
            have e9 : tzit (mWk1 (4 * q) y) (k + 1) u = tzst (tzst (tzit (mWk1 (4 * q) y) k u) 10 k (((tzit (mWk1 (4 * q) y) k u) 10 (tzix ((tzit (mWk1 (4 * q) y) k u) 2 k))) - ((tzit (mWk1 (4 * q) y) k u) 10 (tzix ((tzit (mWk1 (4 * q) y) k u) 3 k))))) 11 k (((tzst (tzit (mWk1 (4 * q) y) k u) 10 k (((tzit (mWk1 (4 * q) y) k u) 10 (tzix ((tzit (mWk1 (4 * q) y) k u) 2 k))) - ((tzit (mWk1 (4 * q) y) k u) 10 (tzix ((tzit (mWk1 (4 * q) y) k u) 3 k))))) 11 (tzix ((tzit (mWk1 (4 * q) y) k u) 2 k))) - ((tzst (tzit (mWk1 (4 * q) y) k u) 10 k (((tzit (mWk1 (4 * q) y) k u) 10 (tzix ((tzit (mWk1 (4 * q) y) k u) 2 k))) - ((tzit (mWk1 (4 * q) y) k u) 10 (tzix ((tzit (mWk1 (4 * q) y) k u) 3 k))))) 11 (tzix ((tzit (mWk1 (4 * q) y) k u) 3 k)))) := by
              rw [tzit_s, mWk1, if_neg c_39, if_neg c_86, if_neg c_113, if_pos c_168] <;> rfl
            exact ih _ _ _ ⟨by rw [e9]; exact Y, lv_sub hl [3, 4, 5, 0] rfl⟩
        · refine lv_aload_n hx hb dX1_work_116 rfl (lv_at hl 2 rfl) ?_
          refine x1_getr 10 (by decide) Z Y q228 dX1_work_117 ?_
          refine lv_iload_n hx hb dX1_work_120 rfl (lv_at hl 5 rfl) ?_
          refine lv_aload_n hx hb dX1_work_121 rfl (lv_at hl 2 rfl) ?_
          refine x1_getr 10 (by decide) Z Y q228 dX1_work_122 ?_
          refine lv_iload hx hb dX1_work_125 (lv_at hl 1 rfl) ?_
          refine x1_ald 10 (by decide) (i := tzix ((tzit (mWk1 (4 * q) y) k u) 2 k)) Z Y h1 dX1_work_127 ?_
          refine lv_aload_n hx hb dX1_work_128 rfl (lv_at hl 2 rfl) ?_
          refine x1_getr 10 (by decide) Z Y q228 dX1_work_129 ?_
          refine lv_iload hx hb dX1_work_132 (lv_at hl 0 rfl) ?_
          refine x1_ald 10 (by decide) (i := tzix ((tzit (mWk1 (4 * q) y) k u) 3 k)) Z Y h2 dX1_work_134 ?_
          refine lv_iadd hx hb dX1_work_135 ?_
          refine x1_ast 10 (by decide) (i := k) Z Y (tzat_nI (show _ < 24 by omega)) dX1_work_136 (fun H locs Y => ?_)
          refine lv_aload_n hx hb dX1_work_137 rfl (lv_at hl 2 rfl) ?_
          refine x1_getr 11 (by decide) Z Y q229 dX1_work_138 ?_
          refine lv_iload_n hx hb dX1_work_141 rfl (lv_at hl 5 rfl) ?_
          refine lv_aload_n hx hb dX1_work_142 rfl (lv_at hl 2 rfl) ?_
          refine x1_getr 11 (by decide) Z Y q229 dX1_work_143 ?_
          refine lv_iload hx hb dX1_work_146 (lv_at hl 1 rfl) ?_
          refine x1_ald 11 (by decide) (i := tzix ((tzit (mWk1 (4 * q) y) k u) 2 k)) Z Y h1 dX1_work_148 ?_
          refine lv_aload_n hx hb dX1_work_149 rfl (lv_at hl 2 rfl) ?_
          refine x1_getr 11 (by decide) Z Y q229 dX1_work_150 ?_
          refine lv_iload hx hb dX1_work_153 (lv_at hl 0 rfl) ?_
          refine x1_ald 11 (by decide) (i := tzix ((tzit (mWk1 (4 * q) y) k u) 3 k)) Z Y h2 dX1_work_155 ?_
          refine lv_iadd hx hb dX1_work_156 ?_
          refine x1_ast 11 (by decide) (i := k) Z Y (tzat_nI (show _ < 24 by omega)) dX1_work_157 (fun H locs Y => ?_)
          refine lv_goto (tgt := 274) hx hb dX1_work_158 (by decide) ?_
          refine lv_iinc (v := nI (k + 1)) (lv' := [(3, .int (nI (k + 1))), (5, .int ((tzit (mWk1 (4 * q) y) k u) 3 k)), (4, .int ((tzit (mWk1 (4 * q) y) k u) 2 k)), (0, .ref (a 14)), (1, .int x), (2, .int y)]) hx hb dX1_work_274 hl (k := 5) rfl (tz_inc k) (by decide) rfl (fun ls hl => ?_)
          refine lv_goto (tgt := 2) hx hb dX1_work_277 (by decide) ?_
          have e9 : tzit (mWk1 (4 * q) y) (k + 1) u = tzst (tzst (tzit (mWk1 (4 * q) y) k u) 10 k (((tzit (mWk1 (4 * q) y) k u) 10 (tzix ((tzit (mWk1 (4 * q) y) k u) 2 k))) + ((tzit (mWk1 (4 * q) y) k u) 10 (tzix ((tzit (mWk1 (4 * q) y) k u) 3 k))))) 11 k (((tzst (tzit (mWk1 (4 * q) y) k u) 10 k (((tzit (mWk1 (4 * q) y) k u) 10 (tzix ((tzit (mWk1 (4 * q) y) k u) 2 k))) + ((tzit (mWk1 (4 * q) y) k u) 10 (tzix ((tzit (mWk1 (4 * q) y) k u) 3 k))))) 11 (tzix ((tzit (mWk1 (4 * q) y) k u) 2 k))) + ((tzst (tzit (mWk1 (4 * q) y) k u) 10 k (((tzit (mWk1 (4 * q) y) k u) 10 (tzix ((tzit (mWk1 (4 * q) y) k u) 2 k))) + ((tzit (mWk1 (4 * q) y) k u) 10 (tzix ((tzit (mWk1 (4 * q) y) k u) 3 k))))) 11 (tzix ((tzit (mWk1 (4 * q) y) k u) 3 k)))) := by
            rw [tzit_s, mWk1, if_neg c_39, if_neg c_86, if_pos c_113] <;> rfl
          exact ih _ _ _ ⟨by rw [e9]; exact Y, lv_sub hl [3, 4, 5, 0] rfl⟩
      · refine lv_aload_n hx hb dX1_work_89 rfl (lv_at hl 2 rfl) ?_
        refine x1_getr 10 (by decide) Z Y q228 dX1_work_90 ?_
        refine lv_iload_n hx hb dX1_work_93 rfl (lv_at hl 5 rfl) ?_
        refine lv_iload hx hb dX1_work_94 (lv_at hl 1 rfl) ?_
        refine x1_ast 10 (by decide) (i := k) Z Y (tzat_nI (show _ < 24 by omega)) dX1_work_96 (fun H locs Y => ?_)
        refine lv_aload_n hx hb dX1_work_97 rfl (lv_at hl 2 rfl) ?_
        refine x1_getr 11 (by decide) Z Y q229 dX1_work_98 ?_
        refine lv_iload_n hx hb dX1_work_101 rfl (lv_at hl 5 rfl) ?_
        refine lv_iconst (v := 0) hx hb dX1_work_102 (by decide) ?_
        refine x1_ast 11 (by decide) (i := k) Z Y (tzat_nI (show _ < 24 by omega)) dX1_work_103 (fun H locs Y => ?_)
        refine lv_goto (tgt := 274) hx hb dX1_work_104 (by decide) ?_
        refine lv_iinc (v := nI (k + 1)) (lv' := [(3, .int (nI (k + 1))), (5, .int ((tzit (mWk1 (4 * q) y) k u) 3 k)), (4, .int ((tzit (mWk1 (4 * q) y) k u) 2 k)), (0, .ref (a 14)), (1, .int x), (2, .int y)]) hx hb dX1_work_274 hl (k := 5) rfl (tz_inc k) (by decide) rfl (fun ls hl => ?_)
        refine lv_goto (tgt := 2) hx hb dX1_work_277 (by decide) ?_
        have e9 : tzit (mWk1 (4 * q) y) (k + 1) u = tzst (tzst (tzit (mWk1 (4 * q) y) k u) 10 k ((tzit (mWk1 (4 * q) y) k u) 2 k)) 11 k 0 := by
          rw [tzit_s, mWk1, if_neg c_39, if_pos c_86] <;> rfl
        exact ih _ _ _ ⟨by rw [e9]; exact Y, lv_sub hl [3, 4, 5, 0] rfl⟩
    · refine lv_aload_n hx hb dX1_work_42 rfl (lv_at hl 2 rfl) ?_
      refine x1_getr 10 (by decide) Z Y q228 dX1_work_43 ?_
      refine lv_iload_n hx hb dX1_work_46 rfl (lv_at hl 5 rfl) ?_
      refine lv_aload_n hx hb dX1_work_47 rfl (lv_at hl 2 rfl) ?_
      refine x1_getr 8 (by decide) Z Y q226 dX1_work_48 ?_
      refine lv_iconst (v := 4) hx hb dX1_work_51 (by decide) ?_
      refine lv_iload_n hx hb dX1_work_52 rfl (lv_at hl 3 rfl) ?_
      refine lv_imul hx hb dX1_work_53 ?_
      refine lv_iload hx hb dX1_work_54 (lv_at hl 1 rfl) ?_
      refine lv_iadd hx hb dX1_work_56 ?_
      refine x1_ald 8 (by decide) (i := (4 * q) + tzix ((tzit (mWk1 (4 * q) y) k u) 2 k)) Z Y (tz_b (tz_4b hq) (tz_4le hq) ((w9.nd hi).p c_39)) dX1_work_57 ?_
      refine x1_ast 10 (by decide) (i := k) Z Y (tzat_nI (show _ < 24 by omega)) dX1_work_58 (fun H locs Y => ?_)
      refine lv_aload_n hx hb dX1_work_59 rfl (lv_at hl 2 rfl) ?_
      refine x1_getr 11 (by decide) Z Y q229 dX1_work_60 ?_
      refine lv_iload_n hx hb dX1_work_63 rfl (lv_at hl 5 rfl) ?_
      refine lv_iload hx hb dX1_work_64 (lv_at hl 1 rfl) ?_
      refine lv_iload_n hx hb dX1_work_66 rfl (lv_at hl 4 rfl) ?_
      refine lv_icmp_ne (tgt := 74) hx hb dX1_work_67 (by decide) (fun c_67 => ?_) (fun c_67 => ?_)
      · refine lv_iconst (v := 0) hx hb dX1_work_74 (by decide) ?_
        refine x1_ast 11 (by decide) (i := k) Z Y (tzat_nI (show _ < 24 by omega)) dX1_work_75 (fun H locs Y => ?_)
        refine lv_goto (tgt := 274) hx hb dX1_work_76 (by decide) ?_
        refine lv_iinc (v := nI (k + 1)) (lv' := [(3, .int (nI (k + 1))), (5, .int ((tzit (mWk1 (4 * q) y) k u) 3 k)), (4, .int ((tzit (mWk1 (4 * q) y) k u) 2 k)), (0, .ref (a 14)), (1, .int x), (2, .int y)]) hx hb dX1_work_274 hl (k := 5) rfl (tz_inc k) (by decide) rfl (fun ls hl => ?_)
        refine lv_goto (tgt := 2) hx hb dX1_work_277 (by decide) ?_
        have e9 : tzit (mWk1 (4 * q) y) (k + 1) u = tzst (tzst (tzit (mWk1 (4 * q) y) k u) 10 k ((tzit (mWk1 (4 * q) y) k u) 8 ((4 * q) + tzix ((tzit (mWk1 (4 * q) y) k u) 2 k)))) 11 k 0 := by
          rw [tzit_s, mWk1, if_pos c_39, if_neg c_67] <;> rfl
        exact ih _ _ _ ⟨by rw [e9]; exact Y, lv_sub hl [3, 4, 5, 0] rfl⟩
      · refine lv_iconst (v := 1) hx hb dX1_work_70 (by decide) ?_
        refine lv_goto (tgt := 75) hx hb dX1_work_71 (by decide) ?_
        refine x1_ast 11 (by decide) (i := k) Z Y (tzat_nI (show _ < 24 by omega)) dX1_work_75 (fun H locs Y => ?_)
        refine lv_goto (tgt := 274) hx hb dX1_work_76 (by decide) ?_
        refine lv_iinc (v := nI (k + 1)) (lv' := [(3, .int (nI (k + 1))), (5, .int ((tzit (mWk1 (4 * q) y) k u) 3 k)), (4, .int ((tzit (mWk1 (4 * q) y) k u) 2 k)), (0, .ref (a 14)), (1, .int x), (2, .int y)]) hx hb dX1_work_274 hl (k := 5) rfl (tz_inc k) (by decide) rfl (fun ls hl => ?_)
        refine lv_goto (tgt := 2) hx hb dX1_work_277 (by decide) ?_
        have e9 : tzit (mWk1 (4 * q) y) (k + 1) u = tzst (tzst (tzit (mWk1 (4 * q) y) k u) 10 k ((tzit (mWk1 (4 * q) y) k u) 8 ((4 * q) + tzix ((tzit (mWk1 (4 * q) y) k u) 2 k)))) 11 k 1 := by
          rw [tzit_s, mWk1, if_pos c_39, if_pos c_67] <;> rfl
        exact ih _ _ _ ⟨by rw [e9]; exact Y, lv_sub hl [3, 4, 5, 0] rfl⟩
  · rintro H locs ls ⟨Y, hl⟩
    have w9 : tzWM (tzit (mWk1 (4 * q) y) n u) n t := hW.kp (mWkI_kp u _ y n) (by decide)
    refine lv_iload_n hx hb dX1_work_2 rfl (lv_at hl 3 rfl) ?_
    refine lv_aload_n hx hb dX1_work_3 rfl (lv_at hl 0 rfl) ?_
    refine x1_geti 0 (by decide) Z Y q218 dX1_work_4 ?_
    refine tz_top (y := nI n) w9.1 ?_
    refine lv_icmp_ge (tgt := 280) hx hb dX1_work_7 (by decide) (fun _ => ?_) (fun c9 => absurd (Int32.le_refl _) c9)
    exact tz_rv Z hr hlk Y dX1_work_280 (by rw [mWork, hW.n])
set_option maxHeartbeats 4000000 in
set_option maxRecDepth 100000 in
theorem kX1_total (l : Launch) (D : va_G) (a : Nat → Nat) (c : Nat → ClassId) (u : tzS) {n t : Nat} (hW : tzWM u n t) : tzMi l yX1_total cX1_total 3 .int (tzR 0) D (wX1 a c) (tX1 c) [.ref (a 14)] u (mTot u) u := by
  refine tzMi.mk RX1 (by decide) rfl (Nat.le_of_ble_eq_true rfl) ?_
  intro p e s m below meth cd A ls Z hr hlk hA Y hl
  have hx := Z.1.1
  have hb := Z.1.2.1
  have hl : lv_has ls 3 [(0, .ref (a 14))] := hl
  have n24 : n ≤ 24 := hW.2.1
  have t8 : t ≤ 8 := hW.2.2.2.1
  refine lv_iconst (v := 0) hx hb dX1_total_0 (by decide) ?_
  refine lv_istore_n (lv' := [(1, .int 0), (0, .ref (a 14))]) hx hb dX1_total_1 rfl hl (by decide) rfl (fun ls hl => ?_)
  refine lv_iconst (v := nI 0) hx hb dX1_total_2 (by decide) ?_
  refine lv_istore_n (lv' := [(2, .int (nI 0)), (1, .int 0), (0, .ref (a 14))]) hx hb dX1_total_3 rfl hl (by decide) rfl (fun ls hl => ?_)
  refine tz_loop (G := fun i H locs ls => tzY D A s.heap (wX1 a c u) H locs ∧ lv_has ls 3 [(0, .ref (a 14)), (1, .int (tzsm (fun t => u 6 t * u 10 (tzix (u 5 t))) i)), (2, .int (nI i))]) t ?_ ?_ ⟨Y, lv_sub hl [2, 1, 0] rfl⟩
  · rintro i H locs ls hi ⟨Y, hl⟩ ih
    refine lv_iload_n hx hb dX1_total_4 rfl (lv_at hl 2 rfl) ?_
    refine lv_aload_n hx hb dX1_total_5 rfl (lv_at hl 0 rfl) ?_
    refine x1_geti 4 (by decide) Z Y q222 dX1_total_6 ?_
    refine tz_top (y := nI t) hW.2.2.1 ?_
    refine lv_icmp_ge (tgt := 45) hx hb dX1_total_9 (by decide) (fun c9 => absurd c9 (nI_ge hi (by omega))) (fun _ => ?_)
    refine lv_iload_n hx hb dX1_total_12 rfl (lv_at hl 2 rfl) ?_
    refine lv_bipush (v := nI 8) hx hb dX1_total_13 (by decide) ?_
    refine lv_icmp_ge (tgt := 45) hx hb dX1_total_15 (by decide) (fun c9 => absurd c9 (nI_ge (show i < 8 by omega) (by omega))) (fun _ => ?_)
    refine lv_iload_n hx hb dX1_total_18 rfl (lv_at hl 1 rfl) ?_
    refine lv_aload_n hx hb dX1_total_19 rfl (lv_at hl 0 rfl) ?_
    refine x1_getr 6 (by decide) Z Y q224 dX1_total_20 ?_
    refine lv_iload_n hx hb dX1_total_23 rfl (lv_at hl 2 rfl) ?_
    refine x1_ald 6 (by decide) (i := i) Z Y (tzat_nI (show _ < 8 by omega)) dX1_total_24 ?_
    refine lv_aload_n hx hb dX1_total_25 rfl (lv_at hl 0 rfl) ?_
    refine x1_getr 10 (by decide) Z Y q228 dX1_total_26 ?_
    refine lv_aload_n hx hb dX1_total_29 rfl (lv_at hl 0 rfl) ?_
    refine x1_getr 5 (by decide) Z Y q223 dX1_total_30 ?_
    refine lv_iload_n hx hb dX1_total_33 rfl (lv_at hl 2 rfl) ?_
    refine x1_ald 5 (by decide) (i := i) Z Y (tzat_nI (show _ < 8 by omega)) dX1_total_34 ?_
    refine x1_ald 10 (by decide) (i := tzix (u 5 i)) Z Y (hW.tn hi) dX1_total_35 ?_
    refine lv_imul hx hb dX1_total_36 ?_
    refine lv_iadd hx hb dX1_total_37 ?_
    refine lv_istore_n (lv' := [(1, .int ((tzsm (fun t => u 6 t * u 10 (tzix (u 5 t))) i) + ((u 6 i) * (u 10 (tzix (u 5 i)))))), (0, .ref (a 14)), (2, .int (nI i))]) hx hb dX1_total_38 rfl hl (by decide) rfl (fun ls hl => ?_)
    refine lv_iinc (v := nI (i + 1)) (lv' := [(2, .int (nI (i + 1))), (1, .int ((tzsm (fun t => u 6 t * u 10 (tzix (u 5 t))) i) + ((u 6 i) * (u 10 (tzix (u 5 i)))))), (0, .ref (a 14))]) hx hb dX1_total_39 hl (k := 2) rfl (tz_inc i) (by decide) rfl (fun ls hl => ?_)
    refine lv_goto (tgt := 4) hx hb dX1_total_42 (by decide) ?_
    exact ih _ _ _ ⟨Y, lv_sub hl [2, 1, 0] rfl⟩
  · rintro H locs ls ⟨Y, hl⟩
    refine lv_iload_n hx hb dX1_total_4 rfl (lv_at hl 2 rfl) ?_
    refine lv_aload_n hx hb dX1_total_5 rfl (lv_at hl 0 rfl) ?_
    refine x1_geti 4 (by decide) Z Y q222 dX1_total_6 ?_
    refine tz_top (y := nI t) hW.2.2.1 ?_
    refine lv_icmp_ge (tgt := 45) hx hb dX1_total_9 (by decide) (fun _ => ?_) (fun c9 => absurd (Int32.le_refl _) c9)
    refine lv_iload_n hx hb dX1_total_45 rfl (lv_at hl 1 rfl) ?_
    exact tz_ri Z hr hlk Y dX1_total_46 (by rw [mTot, hW.t]) rfl
set_option maxHeartbeats 4000000 in
set_option maxRecDepth 100000 in
theorem kX1_steepness (l : Launch) (D : va_G) (a : Nat → Nat) (c : Nat → ClassId) (u : tzS) {n t : Nat} (hW : tzWM u n t) : tzMi l yX1_steepness cX1_steepness 3 .int (tzR 0) D (wX1 a c) (tX1 c) [.ref (a 14)] u (mStp u) u := by
  refine tzMi.mk RX1 (by decide) rfl (Nat.le_of_ble_eq_true rfl) ?_
  intro p e s m below meth cd A ls Z hr hlk hA Y hl
  have hx := Z.1.1
  have hb := Z.1.2.1
  have hl : lv_has ls 3 [(0, .ref (a 14))] := hl
  have n24 : n ≤ 24 := hW.2.1
  have t8 : t ≤ 8 := hW.2.2.2.1
  refine lv_iconst (v := 0) hx hb dX1_steepness_0 (by decide) ?_
  refine lv_istore_n (lv' := [(1, .int 0), (0, .ref (a 14))]) hx hb dX1_steepness_1 rfl hl (by decide) rfl (fun ls hl => ?_)
  refine lv_iconst (v := nI 0) hx hb dX1_steepness_2 (by decide) ?_
  refine lv_istore_n (lv' := [(2, .int (nI 0)), (1, .int 0), (0, .ref (a 14))]) hx hb dX1_steepness_3 rfl hl (by decide) rfl (fun ls hl => ?_)
  refine tz_loop (G := fun i H locs ls => tzY D A s.heap (wX1 a c u) H locs ∧ lv_has ls 3 [(0, .ref (a 14)), (1, .int (tzsm (fun t => u 6 t * u 11 (tzix (u 5 t))) i)), (2, .int (nI i))]) t ?_ ?_ ⟨Y, lv_sub hl [2, 1, 0] rfl⟩
  · rintro i H locs ls hi ⟨Y, hl⟩ ih
    refine lv_iload_n hx hb dX1_steepness_4 rfl (lv_at hl 2 rfl) ?_
    refine lv_aload_n hx hb dX1_steepness_5 rfl (lv_at hl 0 rfl) ?_
    refine x1_geti 4 (by decide) Z Y q222 dX1_steepness_6 ?_
    refine tz_top (y := nI t) hW.2.2.1 ?_
    refine lv_icmp_ge (tgt := 45) hx hb dX1_steepness_9 (by decide) (fun c9 => absurd c9 (nI_ge hi (by omega))) (fun _ => ?_)
    refine lv_iload_n hx hb dX1_steepness_12 rfl (lv_at hl 2 rfl) ?_
    refine lv_bipush (v := nI 8) hx hb dX1_steepness_13 (by decide) ?_
    refine lv_icmp_ge (tgt := 45) hx hb dX1_steepness_15 (by decide) (fun c9 => absurd c9 (nI_ge (show i < 8 by omega) (by omega))) (fun _ => ?_)
    refine lv_iload_n hx hb dX1_steepness_18 rfl (lv_at hl 1 rfl) ?_
    refine lv_aload_n hx hb dX1_steepness_19 rfl (lv_at hl 0 rfl) ?_
    refine x1_getr 6 (by decide) Z Y q224 dX1_steepness_20 ?_
    refine lv_iload_n hx hb dX1_steepness_23 rfl (lv_at hl 2 rfl) ?_
    refine x1_ald 6 (by decide) (i := i) Z Y (tzat_nI (show _ < 8 by omega)) dX1_steepness_24 ?_
    refine lv_aload_n hx hb dX1_steepness_25 rfl (lv_at hl 0 rfl) ?_
    refine x1_getr 11 (by decide) Z Y q229 dX1_steepness_26 ?_
    refine lv_aload_n hx hb dX1_steepness_29 rfl (lv_at hl 0 rfl) ?_
    refine x1_getr 5 (by decide) Z Y q223 dX1_steepness_30 ?_
    refine lv_iload_n hx hb dX1_steepness_33 rfl (lv_at hl 2 rfl) ?_
    refine x1_ald 5 (by decide) (i := i) Z Y (tzat_nI (show _ < 8 by omega)) dX1_steepness_34 ?_
    refine x1_ald 11 (by decide) (i := tzix (u 5 i)) Z Y (hW.tn hi) dX1_steepness_35 ?_
    refine lv_imul hx hb dX1_steepness_36 ?_
    refine lv_iadd hx hb dX1_steepness_37 ?_
    refine lv_istore_n (lv' := [(1, .int ((tzsm (fun t => u 6 t * u 11 (tzix (u 5 t))) i) + ((u 6 i) * (u 11 (tzix (u 5 i)))))), (0, .ref (a 14)), (2, .int (nI i))]) hx hb dX1_steepness_38 rfl hl (by decide) rfl (fun ls hl => ?_)
    refine lv_iinc (v := nI (i + 1)) (lv' := [(2, .int (nI (i + 1))), (1, .int ((tzsm (fun t => u 6 t * u 11 (tzix (u 5 t))) i) + ((u 6 i) * (u 11 (tzix (u 5 i)))))), (0, .ref (a 14))]) hx hb dX1_steepness_39 hl (k := 2) rfl (tz_inc i) (by decide) rfl (fun ls hl => ?_)
    refine lv_goto (tgt := 4) hx hb dX1_steepness_42 (by decide) ?_
    exact ih _ _ _ ⟨Y, lv_sub hl [2, 1, 0] rfl⟩
  · rintro H locs ls ⟨Y, hl⟩
    refine lv_iload_n hx hb dX1_steepness_4 rfl (lv_at hl 2 rfl) ?_
    refine lv_aload_n hx hb dX1_steepness_5 rfl (lv_at hl 0 rfl) ?_
    refine x1_geti 4 (by decide) Z Y q222 dX1_steepness_6 ?_
    refine tz_top (y := nI t) hW.2.2.1 ?_
    refine lv_icmp_ge (tgt := 45) hx hb dX1_steepness_9 (by decide) (fun _ => ?_) (fun c9 => absurd (Int32.le_refl _) c9)
    refine lv_iload_n hx hb dX1_steepness_45 rfl (lv_at hl 1 rfl) ?_
    exact tz_ri Z hr hlk Y dX1_steepness_46 (by rw [mStp, hW.t]) rfl
set_option maxHeartbeats 4000000 in
set_option maxRecDepth 100000 in
theorem kX1_valueOf (l : Launch) (D : va_G) (a : Nat → Nat) (c : Nat → ClassId) (u : tzS) (ch k : Int32) {n t : Nat} (hW : tzWM u n t) : tzMi l yX1_valueOf cX1_valueOf 3 .int (tzR 1) D (wX1 a c) (tX1 c) [.ref (a 14), .int ch, .int k] u ((mVal u ch k).1) ((mVal u ch k).2) := by
  refine tzMi.mk RX1 (by decide) rfl (Nat.le_of_ble_eq_true rfl) ?_
  intro p e s m below meth cd A ls Z hr hlk hA Y hl
  have hx := Z.1.1
  have hb := Z.1.2.1
  have hl : lv_has ls 3 [(0, .ref (a 14)), (1, .int ch), (2, .int k)] := hl
  have n24 : n ≤ 24 := hW.2.1
  have t8 : t ≤ 8 := hW.2.2.2.1
  refine lv_aload_n hx hb dX1_valueOf_0 rfl (lv_at hl 0 rfl) ?_
  refine lv_iload_n hx hb dX1_valueOf_1 rfl (lv_at hl 1 rfl) ?_
  refine tz_cVi (ci := 1) (C := RX1) Z Y hA ⟨Nat.zero_le _, Nat.zero_le _⟩ (kX1_badChain l D a c u ch) rfl rfl (cwV 1 Z.1.2.2.2.2 (lw_V q309 q311 qs12 q19 q312) rfl rfl rfl (by decide +kernel) ⟨by decide, by decide⟩) rfl hl.1 rfl (Nat.le_of_ble_eq_true rfl) dX1_valueOf_2 (fun H locs Y => ?_)
  refine lv_if_ne (tgt := 16) hx hb dX1_valueOf_5 (by decide) (fun c_5 => ?_) (fun c_5 => ?_)
  · refine lv_iconst (v := 0) hx hb dX1_valueOf_16 (by decide) ?_
    exact tz_ri Z hr hlk Y dX1_valueOf_17 (by rw [mVal, if_neg c_5] <;> rfl) (by rw [mVal, if_neg c_5] <;> rfl)
  · have h1 := tz_bC c_5
    refine lv_aload_n hx hb dX1_valueOf_8 rfl (lv_at hl 0 rfl) ?_
    refine lv_iload_n hx hb dX1_valueOf_9 rfl (lv_at hl 2 rfl) ?_
    refine tz_cVi (ci := 1) (C := RX1) Z Y hA ⟨Nat.zero_le _, Nat.zero_le _⟩ (kX1_badNode l D a c u k) rfl rfl (cwV 1 Z.1.2.2.2.2 (lw_V q281 q283 qs11 q19 q284) rfl rfl rfl (by decide +kernel) ⟨by decide, by decide⟩) rfl hl.1 rfl (Nat.le_of_ble_eq_true rfl) dX1_valueOf_10 (fun H locs Y => ?_)
    refine lv_if_eq (tgt := 18) hx hb dX1_valueOf_13 (by decide) (fun c_13 => ?_) (fun c_13 => ?_)
    · have hk := tz_bN hW.1 hW.2.1 c_13
      refine lv_aload_n hx hb dX1_valueOf_18 rfl (lv_at hl 0 rfl) ?_
      refine lv_iload_n hx hb dX1_valueOf_19 rfl (lv_at hl 1 rfl) ?_
      refine lv_iconst (v := 0) hx hb dX1_valueOf_20 (by decide) ?_
      refine tz_cVv (ci := 1) (C := RX1) Z Y hA ⟨Nat.zero_le _, Nat.zero_le _⟩ (kX1_work l D a c u ch 0 h1 hW) rfl rfl (cwV 2 Z.1.2.2.2.2 (lw_V q333 q335 qs13 q19 q336) rfl rfl rfl (by decide +kernel) ⟨by decide, by decide⟩) rfl hl.1 rfl (Nat.le_of_ble_eq_true rfl) dX1_valueOf_21 (fun H locs Y => ?_)
      refine lv_aload_n hx hb dX1_valueOf_24 rfl (lv_at hl 0 rfl) ?_
      refine x1_getr 10 (by decide) Z Y q228 dX1_valueOf_25 ?_
      refine lv_iload_n hx hb dX1_valueOf_28 rfl (lv_at hl 2 rfl) ?_
      refine x1_ald 10 (by decide) (i := tzix k) Z Y (hk.le n24) dX1_valueOf_29 ?_
      exact tz_ri Z hr hlk Y dX1_valueOf_30 (by rw [mVal, if_pos c_5, if_pos c_13] <;> rfl) (by rw [mVal, if_pos c_5, if_pos c_13] <;> rfl)
    · refine lv_iconst (v := 0) hx hb dX1_valueOf_16 (by decide) ?_
      exact tz_ri Z hr hlk Y dX1_valueOf_17 (by rw [mVal, if_pos c_5, if_neg c_13] <;> rfl) (by rw [mVal, if_pos c_5, if_neg c_13] <;> rfl)
set_option maxHeartbeats 4000000 in
set_option maxRecDepth 100000 in
theorem kX1_target (l : Launch) (D : va_G) (a : Nat → Nat) (c : Nat → ClassId) (u : tzS) (ch : Int32) {n t : Nat} (hW : tzWM u n t) : tzMi l yX1_target cX1_target 2 .int (tzR 1) D (wX1 a c) (tX1 c) [.ref (a 14), .int ch] u ((mTgt u ch).1) ((mTgt u ch).2) := by
  refine tzMi.mk RX1 (by decide) rfl (Nat.le_of_ble_eq_true rfl) ?_
  intro p e s m below meth cd A ls Z hr hlk hA Y hl
  have hx := Z.1.1
  have hb := Z.1.2.1
  have hl : lv_has ls 2 [(0, .ref (a 14)), (1, .int ch)] := hl
  refine lv_aload_n hx hb dX1_target_0 rfl (lv_at hl 0 rfl) ?_
  refine lv_iload_n hx hb dX1_target_1 rfl (lv_at hl 1 rfl) ?_
  refine tz_cVi (ci := 1) (C := RX1) Z Y hA ⟨Nat.zero_le _, Nat.zero_le _⟩ (kX1_badChain l D a c u ch) rfl rfl (cwV 1 Z.1.2.2.2.2 (lw_V q309 q311 qs12 q19 q312) rfl rfl rfl (by decide +kernel) ⟨by decide, by decide⟩) rfl hl.1 rfl (Nat.le_of_ble_eq_true rfl) dX1_target_2 (fun H locs Y => ?_)
  refine lv_if_eq (tgt := 10) hx hb dX1_target_5 (by decide) (fun c_5 => ?_) (fun c_5 => ?_)
  · have h1 := tz_bC c_5
    refine lv_aload_n hx hb dX1_target_10 rfl (lv_at hl 0 rfl) ?_
    refine lv_iload_n hx hb dX1_target_11 rfl (lv_at hl 1 rfl) ?_
    refine lv_iconst (v := 0) hx hb dX1_target_12 (by decide) ?_
    refine tz_cVv (ci := 1) (C := RX1) Z Y hA ⟨Nat.zero_le _, Nat.zero_le _⟩ (kX1_work l D a c u ch 0 h1 hW) rfl rfl (cwV 2 Z.1.2.2.2.2 (lw_V q333 q335 qs13 q19 q336) rfl rfl rfl (by decide +kernel) ⟨by decide, by decide⟩) rfl hl.1 rfl (Nat.le_of_ble_eq_true rfl) dX1_target_13 (fun H locs Y => ?_)
    refine lv_aload_n hx hb dX1_target_16 rfl (lv_at hl 0 rfl) ?_
    refine tz_cVi (ci := 1) (C := RX1) Z Y hA ⟨Nat.zero_le _, Nat.zero_le _⟩ (kX1_total l D a c (mWork u (4 * tzix ch) 0) (hW.kp (mWork_kp _ _ _) (by decide))) rfl rfl (cwV 0 Z.1.2.2.2.2 (lw_V q341 q343 qs14 q19 q344) rfl rfl rfl (by decide +kernel) ⟨by decide, by decide⟩) rfl hl.1 rfl (Nat.le_of_ble_eq_true rfl) dX1_target_17 (fun H locs Y => ?_)
    exact tz_ri Z hr hlk Y dX1_target_20 (by rw [mTgt, if_pos c_5] <;> rfl) (by rw [mTgt, if_pos c_5] <;> rfl)
  · refine lv_iconst (v := 0) hx hb dX1_target_8 (by decide) ?_
    exact tz_ri Z hr hlk Y dX1_target_9 (by rw [mTgt, if_neg c_5] <;> rfl) (by rw [mTgt, if_neg c_5] <;> rfl)
set_option maxHeartbeats 4000000 in
set_option maxRecDepth 100000 in
theorem kX1_slope (l : Launch) (D : va_G) (a : Nat → Nat) (c : Nat → ClassId) (u : tzS) (ch j : Int32) {n t : Nat} (hW : tzWM u n t) : tzMi l yX1_slope cX1_slope 3 .int (tzR 1) D (wX1 a c) (tX1 c) [.ref (a 14), .int ch, .int j] u ((mSlope u ch j).1) ((mSlope u ch j).2) := by
  refine tzMi.mk RX1 (by decide) rfl (Nat.le_of_ble_eq_true rfl) ?_
  intro p e s m below meth cd A ls Z hr hlk hA Y hl
  have hx := Z.1.1
  have hb := Z.1.2.1
  have hl : lv_has ls 3 [(0, .ref (a 14)), (1, .int ch), (2, .int j)] := hl
  refine lv_aload_n hx hb dX1_slope_0 rfl (lv_at hl 0 rfl) ?_
  refine lv_iload_n hx hb dX1_slope_1 rfl (lv_at hl 1 rfl) ?_
  refine tz_cVi (ci := 1) (C := RX1) Z Y hA ⟨Nat.zero_le _, Nat.zero_le _⟩ (kX1_badChain l D a c u ch) rfl rfl (cwV 1 Z.1.2.2.2.2 (lw_V q309 q311 qs12 q19 q312) rfl rfl rfl (by decide +kernel) ⟨by decide, by decide⟩) rfl hl.1 rfl (Nat.le_of_ble_eq_true rfl) dX1_slope_2 (fun H locs Y => ?_)
  refine lv_if_ne (tgt := 16) hx hb dX1_slope_5 (by decide) (fun c_5 => ?_) (fun c_5 => ?_)
  · refine lv_iconst (v := 0) hx hb dX1_slope_16 (by decide) ?_
    exact tz_ri Z hr hlk Y dX1_slope_17 (by rw [mSlope, if_neg c_5] <;> rfl) (by rw [mSlope, if_neg c_5] <;> rfl)
  · have h1 := tz_bC c_5
    refine lv_aload_n hx hb dX1_slope_8 rfl (lv_at hl 0 rfl) ?_
    refine lv_iload_n hx hb dX1_slope_9 rfl (lv_at hl 2 rfl) ?_
    refine tz_cVi (ci := 1) (C := RX1) Z Y hA ⟨Nat.zero_le _, Nat.zero_le _⟩ (kX1_badParameter l D a c u j) rfl rfl (cwV 1 Z.1.2.2.2.2 (lw_V q265 q267 qs9 q19 q268) rfl rfl rfl (by decide +kernel) ⟨by decide, by decide⟩) rfl hl.1 rfl (Nat.le_of_ble_eq_true rfl) dX1_slope_10 (fun H locs Y => ?_)
    refine lv_if_eq (tgt := 18) hx hb dX1_slope_13 (by decide) (fun c_13 => ?_) (fun c_13 => ?_)
    · refine lv_aload_n hx hb dX1_slope_18 rfl (lv_at hl 0 rfl) ?_
      refine lv_iload_n hx hb dX1_slope_19 rfl (lv_at hl 1 rfl) ?_
      refine lv_iload_n hx hb dX1_slope_20 rfl (lv_at hl 2 rfl) ?_
      refine tz_cVv (ci := 1) (C := RX1) Z Y hA ⟨Nat.zero_le _, Nat.zero_le _⟩ (kX1_work l D a c u ch j h1 hW) rfl rfl (cwV 2 Z.1.2.2.2.2 (lw_V q333 q335 qs13 q19 q336) rfl rfl rfl (by decide +kernel) ⟨by decide, by decide⟩) rfl hl.1 rfl (Nat.le_of_ble_eq_true rfl) dX1_slope_21 (fun H locs Y => ?_)
      refine lv_aload_n hx hb dX1_slope_24 rfl (lv_at hl 0 rfl) ?_
      refine tz_cVi (ci := 1) (C := RX1) Z Y hA ⟨Nat.zero_le _, Nat.zero_le _⟩ (kX1_steepness l D a c (mWork u (4 * tzix ch) j) (hW.kp (mWork_kp _ _ _) (by decide))) rfl rfl (cwV 0 Z.1.2.2.2.2 (lw_V q349 q351 qs15 q19 q352) rfl rfl rfl (by decide +kernel) ⟨by decide, by decide⟩) rfl hl.1 rfl (Nat.le_of_ble_eq_true rfl) dX1_slope_25 (fun H locs Y => ?_)
      exact tz_ri Z hr hlk Y dX1_slope_28 (by rw [mSlope, if_pos c_5, if_pos c_13] <;> rfl) (by rw [mSlope, if_pos c_5, if_pos c_13] <;> rfl)
    · refine lv_iconst (v := 0) hx hb dX1_slope_16 (by decide) ?_
      exact tz_ri Z hr hlk Y dX1_slope_17 (by rw [mSlope, if_pos c_5, if_neg c_13] <;> rfl) (by rw [mSlope, if_pos c_5, if_neg c_13] <;> rfl)
set_option maxHeartbeats 4000000 in
set_option maxRecDepth 100000 in
theorem kX1_drift (l : Launch) (D : va_G) (a : Nat → Nat) (c : Nat → ClassId) (u : tzS) (ch : Int32) {n t : Nat} (hW : tzWM u n t) : tzMi l yX1_drift cX1_drift 4 .int (tzR 1) D (wX1 a c) (tX1 c) [.ref (a 14), .int ch] u ((mDrift u ch).1) ((mDrift u ch).2) := by
  refine tzMi.mk RX1 (by decide) rfl (Nat.le_of_ble_eq_true rfl) ?_
  intro p e s m below meth cd A ls Z hr hlk hA Y hl
  have hx := Z.1.1
  have hb := Z.1.2.1
  have hl : lv_has ls 4 [(0, .ref (a 14)), (1, .int ch)] := hl
  have n24 : n ≤ 24 := hW.2.1
  have t8 : t ≤ 8 := hW.2.2.2.1
  refine lv_aload_n hx hb dX1_drift_0 rfl (lv_at hl 0 rfl) ?_
  refine lv_iload_n hx hb dX1_drift_1 rfl (lv_at hl 1 rfl) ?_
  refine tz_cVi (ci := 1) (C := RX1) Z Y hA ⟨Nat.zero_le _, Nat.zero_le _⟩ (kX1_badChain l D a c u ch) rfl rfl (cwV 1 Z.1.2.2.2.2 (lw_V q309 q311 qs12 q19 q312) rfl rfl rfl (by decide +kernel) ⟨by decide, by decide⟩) rfl hl.1 rfl (Nat.le_of_ble_eq_true rfl) dX1_drift_2 (fun H locs Y => ?_)
  refine lv_if_eq (tgt := 10) hx hb dX1_drift_5 (by decide) (fun c_5 => ?_) (fun c_5 => ?_)
  · have h1 := tz_bC c_5
    refine lv_iconst (v := 0) hx hb dX1_drift_10 (by decide) ?_
    refine lv_istore_n (lv' := [(2, .int 0), (0, .ref (a 14)), (1, .int ch)]) hx hb dX1_drift_11 rfl hl (by decide) rfl (fun ls hl => ?_)
    refine lv_iconst (v := nI 0) hx hb dX1_drift_12 (by decide) ?_
    refine lv_istore_n (lv' := [(3, .int (nI 0)), (2, .int 0), (0, .ref (a 14)), (1, .int ch)]) hx hb dX1_drift_13 rfl hl (by decide) rfl (fun ls hl => ?_)
    refine tz_loop (G := fun i H locs ls => tzY D A s.heap (wX1 a c (tzit (mDr1 (4 * tzix ch)) i u)) H locs ∧ lv_has ls 4 [(0, .ref (a 14)), (1, .int ch), (2, .int (tzsm (mDrR u (4 * tzix ch)) i)), (3, .int (nI i))]) 4 ?_ ?_ ⟨by rw [tzit_0]; exact Y, lv_sub hl [2, 3, 1, 0] rfl⟩
    · rintro i H locs ls hi ⟨Y, hl⟩ ih
      have w9 : tzWM (tzit (mDr1 (4 * tzix ch)) i u) n t := hW.kp (mDrI_kp u _ i) (by decide)
      refine lv_iload_n hx hb dX1_drift_14 rfl (lv_at hl 3 rfl) ?_
      refine lv_iconst (v := nI 4) hx hb dX1_drift_15 (by decide) ?_
      refine lv_icmp_ge (tgt := 49) hx hb dX1_drift_16 (by decide) (fun c9 => absurd c9 (nI_ge hi (by omega))) (fun _ => ?_)
      refine lv_aload_n hx hb dX1_drift_19 rfl (lv_at hl 0 rfl) ?_
      refine lv_iload_n hx hb dX1_drift_20 rfl (lv_at hl 1 rfl) ?_
      refine lv_iload_n hx hb dX1_drift_21 rfl (lv_at hl 3 rfl) ?_
      refine tz_cVv (ci := 1) (C := RX1) Z Y hA ⟨Nat.zero_le _, Nat.zero_le _⟩ (kX1_work l D a c (tzit (mDr1 (4 * tzix ch)) i u) ch (nI i) h1 w9) rfl rfl (cwV 2 Z.1.2.2.2.2 (lw_V q333 q335 qs13 q19 q336) rfl rfl rfl (by decide +kernel) ⟨by decide, by decide⟩) rfl hl.1 rfl (Nat.le_of_ble_eq_true rfl) dX1_drift_22 (fun H locs Y => ?_)
      refine lv_iload_n hx hb dX1_drift_25 rfl (lv_at hl 2 rfl) ?_
      refine lv_aload_n hx hb dX1_drift_26 rfl (lv_at hl 0 rfl) ?_
      refine x1_getr 9 (by decide) Z Y q227 dX1_drift_27 ?_
      refine lv_iconst (v := 4) hx hb dX1_drift_30 (by decide) ?_
      refine lv_iload_n hx hb dX1_drift_31 rfl (lv_at hl 1 rfl) ?_
      refine lv_imul hx hb dX1_drift_32 ?_
      refine lv_iload_n hx hb dX1_drift_33 rfl (lv_at hl 3 rfl) ?_
      refine lv_iadd hx hb dX1_drift_34 ?_
      refine x1_ald 9 (by decide) (i := (4 * tzix ch) + i) Z Y (tz_b (tz_4b h1) (tz_4le h1) (tzat_nI hi)) dX1_drift_35 ?_
      refine lv_aload_n hx hb dX1_drift_36 rfl (lv_at hl 0 rfl) ?_
      refine tz_cVi (ci := 1) (C := RX1) Z Y hA ⟨Nat.zero_le _, Nat.zero_le _⟩ (kX1_steepness l D a c (mWork (tzit (mDr1 (4 * tzix ch)) i u) (4 * tzix ch) (nI i)) (w9.kp (mWork_kp _ _ _) (by decide))) rfl rfl (cwV 0 Z.1.2.2.2.2 (lw_V q349 q351 qs15 q19 q352) rfl rfl rfl (by decide +kernel) ⟨by decide, by decide⟩) rfl hl.1 rfl (Nat.le_of_ble_eq_true rfl) dX1_drift_37 (fun H locs Y => ?_)
      refine lv_imul hx hb dX1_drift_40 ?_
      refine lv_iadd hx hb dX1_drift_41 ?_
      refine tz_top (y := tzsm (mDrR u (4 * tzix ch)) (i + 1)) rfl ?_
      refine lv_istore_n (lv' := [(2, .int (tzsm (mDrR u (4 * tzix ch)) (i + 1))), (0, .ref (a 14)), (1, .int ch), (3, .int (nI i))]) hx hb dX1_drift_42 rfl hl (by decide) rfl (fun ls hl => ?_)
      refine lv_iinc (v := nI (i + 1)) (lv' := [(3, .int (nI (i + 1))), (2, .int (tzsm (mDrR u (4 * tzix ch)) (i + 1))), (0, .ref (a 14)), (1, .int ch)]) hx hb dX1_drift_43 hl (k := 3) rfl (tz_inc i) (by decide) rfl (fun ls hl => ?_)
      refine lv_goto (tgt := 14) hx hb dX1_drift_46 (by decide) ?_
      have e9 : tzit (mDr1 (4 * tzix ch)) (i + 1) u = mWork (tzit (mDr1 (4 * tzix ch)) i u) (4 * tzix ch) (nI i) := by
        rw [tzit_s, mDr1] <;> rfl
      exact ih _ _ _ ⟨by rw [e9]; exact Y, lv_sub hl [2, 3, 1, 0] rfl⟩
    · rintro H locs ls ⟨Y, hl⟩
      refine lv_iload_n hx hb dX1_drift_14 rfl (lv_at hl 3 rfl) ?_
      refine lv_iconst (v := nI 4) hx hb dX1_drift_15 (by decide) ?_
      refine lv_icmp_ge (tgt := 49) hx hb dX1_drift_16 (by decide) (fun _ => ?_) (fun c9 => absurd (Int32.le_refl _) c9)
      refine lv_iload_n hx hb dX1_drift_49 rfl (lv_at hl 2 rfl) ?_
      exact tz_ri Z hr hlk Y dX1_drift_50 (by rw [mDrift, if_pos c_5] <;> rfl) (by rw [mDrift, if_pos c_5] <;> rfl)
  · refine lv_iconst (v := 0) hx hb dX1_drift_8 (by decide) ?_
    exact tz_ri Z hr hlk Y dX1_drift_9 (by rw [mDrift, if_neg c_5] <;> rfl) (by rw [mDrift, if_neg c_5] <;> rfl)
set_option maxHeartbeats 4000000 in
set_option maxRecDepth 100000 in
theorem kX1_targetAt (l : Launch) (D : va_G) (a : Nat → Nat) (c : Nat → ClassId) (u : tzS) (ch j x : Int32) {n t : Nat} (hW : tzWM u n t) : tzMi l yX1_targetAt cX1_targetAt 5 .int (tzR 1) D (wX1 a c) (tX1 c) [.ref (a 14), .int ch, .int j, .int x] u ((mTat u ch j x).1) ((mTat u ch j x).2) := by
  refine tzMi.mk RX1 (by decide) rfl (Nat.le_of_ble_eq_true rfl) ?_
  intro p e s m below meth cd A ls Z hr hlk hA Y hl
  have hx := Z.1.1
  have hb := Z.1.2.1
  have hl : lv_has ls 5 [(0, .ref (a 14)), (1, .int ch), (2, .int j), (3, .int x)] := hl
  refine lv_aload_n hx hb dX1_targetAt_0 rfl (lv_at hl 0 rfl) ?_
  refine lv_iload_n hx hb dX1_targetAt_1 rfl (lv_at hl 1 rfl) ?_
  refine tz_cVi (ci := 1) (C := RX1) Z Y hA ⟨Nat.zero_le _, Nat.zero_le _⟩ (kX1_badChain l D a c u ch) rfl rfl (cwV 1 Z.1.2.2.2.2 (lw_V q309 q311 qs12 q19 q312) rfl rfl rfl (by decide +kernel) ⟨by decide, by decide⟩) rfl hl.1 rfl (Nat.le_of_ble_eq_true rfl) dX1_targetAt_2 (fun H locs Y => ?_)
  refine lv_if_ne (tgt := 16) hx hb dX1_targetAt_5 (by decide) (fun c_5 => ?_) (fun c_5 => ?_)
  · refine lv_iconst (v := 0) hx hb dX1_targetAt_16 (by decide) ?_
    exact tz_ri Z hr hlk Y dX1_targetAt_17 (by rw [mTat, if_neg c_5] <;> rfl) (by rw [mTat, if_neg c_5] <;> rfl)
  · have h1 := tz_bC c_5
    refine lv_aload_n hx hb dX1_targetAt_8 rfl (lv_at hl 0 rfl) ?_
    refine lv_iload_n hx hb dX1_targetAt_9 rfl (lv_at hl 2 rfl) ?_
    refine tz_cVi (ci := 1) (C := RX1) Z Y hA ⟨Nat.zero_le _, Nat.zero_le _⟩ (kX1_badParameter l D a c u j) rfl rfl (cwV 1 Z.1.2.2.2.2 (lw_V q265 q267 qs9 q19 q268) rfl rfl rfl (by decide +kernel) ⟨by decide, by decide⟩) rfl hl.1 rfl (Nat.le_of_ble_eq_true rfl) dX1_targetAt_10 (fun H locs Y => ?_)
    refine lv_if_eq (tgt := 18) hx hb dX1_targetAt_13 (by decide) (fun c_13 => ?_) (fun c_13 => ?_)
    · have h2 := tz_bP c_13
      have w8 : tzWM (tzst u 8 (4 * tzix ch + tzix j) x) n t := hW.kp (tzKp.rf.st (S := [8]) (by decide)) (by decide)
      refine lv_aload_n hx hb dX1_targetAt_18 rfl (lv_at hl 0 rfl) ?_
      refine x1_getr 8 (by decide) Z Y q226 dX1_targetAt_19 ?_
      refine lv_iconst (v := 4) hx hb dX1_targetAt_22 (by decide) ?_
      refine lv_iload_n hx hb dX1_targetAt_23 rfl (lv_at hl 1 rfl) ?_
      refine lv_imul hx hb dX1_targetAt_24 ?_
      refine lv_iload_n hx hb dX1_targetAt_25 rfl (lv_at hl 2 rfl) ?_
      refine lv_iadd hx hb dX1_targetAt_26 ?_
      refine x1_ald 8 (by decide) (i := 4 * tzix ch + tzix j) Z Y (tz_4 h1 h2) dX1_targetAt_27 ?_
      refine lv_istore (lv' := [(4, .int (u 8 (4 * tzix ch + tzix j))), (0, .ref (a 14)), (1, .int ch), (2, .int j), (3, .int x)]) hx hb dX1_targetAt_28 hl (by decide) rfl (fun ls hl => ?_)
      refine lv_aload_n hx hb dX1_targetAt_30 rfl (lv_at hl 1 rfl) ?_
      refine x1_getr 8 (by decide) Z Y q226 dX1_targetAt_31 ?_
      refine lv_iconst (v := 4) hx hb dX1_targetAt_34 (by decide) ?_
      refine lv_iload_n hx hb dX1_targetAt_35 rfl (lv_at hl 2 rfl) ?_
      refine lv_imul hx hb dX1_targetAt_36 ?_
      refine lv_iload_n hx hb dX1_targetAt_37 rfl (lv_at hl 3 rfl) ?_
      refine lv_iadd hx hb dX1_targetAt_38 ?_
      refine lv_iload_n hx hb dX1_targetAt_39 rfl (lv_at hl 4 rfl) ?_
      refine x1_ast 8 (by decide) (i := 4 * tzix ch + tzix j) Z Y (tz_4 h1 h2) dX1_targetAt_40 (fun H locs Y => ?_)
      refine lv_aload_n hx hb dX1_targetAt_41 rfl (lv_at hl 1 rfl) ?_
      refine lv_iload_n hx hb dX1_targetAt_42 rfl (lv_at hl 2 rfl) ?_
      refine lv_iload_n hx hb dX1_targetAt_43 rfl (lv_at hl 3 rfl) ?_
      refine tz_cVv (ci := 1) (C := RX1) Z Y hA ⟨Nat.zero_le _, Nat.zero_le _⟩ (kX1_work l D a c (tzst u 8 (4 * tzix ch + tzix j) x) ch j h1 w8) rfl rfl (cwV 2 Z.1.2.2.2.2 (lw_V q333 q335 qs13 q19 q336) rfl rfl rfl (by decide +kernel) ⟨by decide, by decide⟩) rfl hl.1 rfl (Nat.le_of_ble_eq_true rfl) dX1_targetAt_44 (fun H locs Y => ?_)
      refine lv_aload_n hx hb dX1_targetAt_47 rfl (lv_at hl 1 rfl) ?_
      refine x1_getr 8 (by decide) Z Y q226 dX1_targetAt_48 ?_
      refine lv_iconst (v := 4) hx hb dX1_targetAt_51 (by decide) ?_
      refine lv_iload_n hx hb dX1_targetAt_52 rfl (lv_at hl 2 rfl) ?_
      refine lv_imul hx hb dX1_targetAt_53 ?_
      refine lv_iload_n hx hb dX1_targetAt_54 rfl (lv_at hl 3 rfl) ?_
      refine lv_iadd hx hb dX1_targetAt_55 ?_
      refine lv_iload hx hb dX1_targetAt_56 (lv_at hl 0 rfl) ?_
      refine x1_ast 8 (by decide) (i := 4 * tzix ch + tzix j) Z Y (tz_4 h1 h2) dX1_targetAt_58 (fun H locs Y => ?_)
      refine lv_aload_n hx hb dX1_targetAt_59 rfl (lv_at hl 1 rfl) ?_
      refine tz_cVi (ci := 1) (C := RX1) Z Y hA ⟨Nat.zero_le _, Nat.zero_le _⟩ (kX1_total l D a c (tzst (mWork (tzst u 8 (4 * tzix ch + tzix j) x) (4 * tzix ch) j) 8 (4 * tzix ch + tzix j) (u 8 (4 * tzix ch + tzix j))) (w8.kp (((mWork_kp _ _ _).mono (S' := [8, 10, 11]) (by decide)).st (by decide)) (by decide))) rfl rfl (cwV 0 Z.1.2.2.2.2 (lw_V q341 q343 qs14 q19 q344) rfl rfl rfl (by decide +kernel) ⟨by decide, by decide⟩) rfl hl.1 rfl (Nat.le_of_ble_eq_true rfl) dX1_targetAt_60 (fun H locs Y => ?_)
      exact tz_ri Z hr hlk Y dX1_targetAt_63 (by rw [mTat, if_pos c_5, if_pos c_13, mTatS]) (by rw [mTat, if_pos c_5, if_pos c_13, mTatS])
    · refine lv_iconst (v := 0) hx hb dX1_targetAt_16 (by decide) ?_
      exact tz_ri Z hr hlk Y dX1_targetAt_17 (by rw [mTat, if_pos c_5, if_neg c_13] <;> rfl) (by rw [mTat, if_pos c_5, if_neg c_13] <;> rfl)
end
section
set_option maxRecDepth 100000
set_option maxHeartbeats 4000000 in
set_option maxRecDepth 100000 in
theorem kX1_kick (l : Launch) (D : va_G) (a : Nat → Nat) (c : Nat → ClassId) (u : tzS) (x : Int32) {q n t : Nat} (hq : tzat x q 3) (hW : tzWM u n t) : tzMv l yX1_kick cX1_kick 3 (tzR 1) D (wX1 a c) (tX1 c) [.ref (a 14), .int x] u (mKick u (4 * q)) := by
  refine tzMv.mk RX1 (by decide) rfl (Nat.le_of_ble_eq_true rfl) ?_
  intro p e s m below meth cd A ls Z hr hlk hA Y hl
  have hx := Z.1.1
  have hb := Z.1.2.1
  have hl : lv_has ls 3 [(0, .ref (a 14)), (1, .int x)] := hl
  refine lv_iconst (v := nI 0) hx hb dX1_kick_0 (by decide) ?_
  refine lv_istore_n (lv' := [(2, .int (nI 0)), (0, .ref (a 14)), (1, .int x)]) hx hb dX1_kick_1 rfl hl (by decide) rfl (fun ls hl => ?_)
  refine tz_loop (G := fun i H locs ls => tzY D A s.heap (wX1 a c (tzit (mKk0 (4 * q)) i u)) H locs ∧ lv_has ls 3 [(0, .ref (a 14)), (1, .int x), (2, .int (nI i))]) 4 ?_ ?_ ⟨by rw [tzit_0]; exact Y, lv_sub hl [1, 2, 0] rfl⟩
  · rintro i H locs ls hi ⟨Y, hl⟩ ih
    have w9 : tzWM (tzit (mKk0 (4 * q)) i u) n t := hW.kp (mKkA_kp u _ i) (by decide)
    refine lv_iload_n hx hb dX1_kick_2 rfl (lv_at hl 2 rfl) ?_
    refine lv_iconst (v := nI 4) hx hb dX1_kick_3 (by decide) ?_
    refine lv_icmp_ge (tgt := 29) hx hb dX1_kick_4 (by decide) (fun c9 => absurd c9 (nI_ge hi (by omega))) (fun _ => ?_)
    refine lv_aload_n hx hb dX1_kick_7 rfl (lv_at hl 0 rfl) ?_
    refine lv_iload_n hx hb dX1_kick_8 rfl (lv_at hl 1 rfl) ?_
    refine lv_iload_n hx hb dX1_kick_9 rfl (lv_at hl 2 rfl) ?_
    refine tz_cVv (ci := 1) (C := RX1) Z Y hA ⟨Nat.zero_le _, Nat.zero_le _⟩ (kX1_work l D a c (tzit (mKk0 (4 * q)) i u) x (nI i) hq w9) rfl rfl (cwV 2 Z.1.2.2.2.2 (lw_V q333 q335 qs13 q19 q336) rfl rfl rfl (by decide +kernel) ⟨by decide, by decide⟩) rfl hl.1 rfl (Nat.le_of_ble_eq_true rfl) dX1_kick_10 (fun H locs Y => ?_)
    refine lv_aload_n hx hb dX1_kick_13 rfl (lv_at hl 0 rfl) ?_
    refine x1_getr 12 (by decide) Z Y q230 dX1_kick_14 ?_
    refine lv_iload_n hx hb dX1_kick_17 rfl (lv_at hl 2 rfl) ?_
    refine lv_aload_n hx hb dX1_kick_18 rfl (lv_at hl 0 rfl) ?_
    refine tz_cVi (ci := 1) (C := RX1) Z Y hA ⟨Nat.zero_le _, Nat.zero_le _⟩ (kX1_steepness l D a c (mWork (tzit (mKk0 (4 * q)) i u) (4 * q) (nI i)) (w9.kp (mWork_kp _ _ _) (by decide))) rfl rfl (cwV 0 Z.1.2.2.2.2 (lw_V q349 q351 qs15 q19 q352) rfl rfl rfl (by decide +kernel) ⟨by decide, by decide⟩) rfl hl.1 rfl (Nat.le_of_ble_eq_true rfl) dX1_kick_19 (fun H locs Y => ?_)
    refine x1_ast 12 (by decide) (i := i) Z Y (tzat_nI (show _ < 4 by omega)) dX1_kick_22 (fun H locs Y => ?_)
    refine lv_iinc (v := nI (i + 1)) (lv' := [(2, .int (nI (i + 1))), (0, .ref (a 14)), (1, .int x)]) hx hb dX1_kick_23 hl (k := 2) rfl (tz_inc i) (by decide) rfl (fun ls hl => ?_)
    refine lv_goto (tgt := 2) hx hb dX1_kick_26 (by decide) ?_
    have e9 : tzit (mKk0 (4 * q)) (i + 1) u = tzst (mWork (tzit (mKk0 (4 * q)) i u) (4 * q) (nI i)) 12 i (mStp (mWork (tzit (mKk0 (4 * q)) i u) (4 * q) (nI i))) := by
      rw [tzit_s, mKk0] <;> rfl
    exact ih _ _ _ ⟨by rw [e9]; exact Y, lv_sub hl [1, 2, 0] rfl⟩
  · rintro H locs ls ⟨Y, hl⟩
    refine lv_iload_n hx hb dX1_kick_2 rfl (lv_at hl 2 rfl) ?_
    refine lv_iconst (v := nI 4) hx hb dX1_kick_3 (by decide) ?_
    refine lv_icmp_ge (tgt := 29) hx hb dX1_kick_4 (by decide) (fun _ => ?_) (fun c9 => absurd (Int32.le_refl _) c9)
    refine lv_iconst (v := nI 0) hx hb dX1_kick_29 (by decide) ?_
    refine lv_istore_n (lv' := [(2, .int (nI 0)), (0, .ref (a 14)), (1, .int x)]) hx hb dX1_kick_30 rfl hl (by decide) rfl (fun ls hl => ?_)
    refine tz_loop (G := fun i H locs ls => tzY D A s.heap (wX1 a c (tzit (mKk1 (4 * q)) i (tzit (mKk0 (4 * q)) 4 u))) H locs ∧ lv_has ls 3 [(0, .ref (a 14)), (1, .int x), (2, .int (nI i))]) 4 ?_ ?_ ⟨by rw [tzit_0]; exact Y, lv_sub hl [1, 2, 0] rfl⟩
    · rintro i H locs ls hi ⟨Y, hl⟩ ih
      refine lv_iload_n hx hb dX1_kick_31 rfl (lv_at hl 2 rfl) ?_
      refine lv_iconst (v := nI 4) hx hb dX1_kick_32 (by decide) ?_
      refine lv_icmp_ge (tgt := 66) hx hb dX1_kick_33 (by decide) (fun c9 => absurd c9 (nI_ge hi (by omega))) (fun _ => ?_)
      refine lv_aload_n hx hb dX1_kick_36 rfl (lv_at hl 0 rfl) ?_
      refine x1_getr 9 (by decide) Z Y q227 dX1_kick_37 ?_
      refine lv_iconst (v := 4) hx hb dX1_kick_40 (by decide) ?_
      refine lv_iload_n hx hb dX1_kick_41 rfl (lv_at hl 1 rfl) ?_
      refine lv_imul hx hb dX1_kick_42 ?_
      refine lv_iload_n hx hb dX1_kick_43 rfl (lv_at hl 2 rfl) ?_
      refine lv_iadd hx hb dX1_kick_44 ?_
      refine lv_dup2_11 hx hb dX1_kick_45 rfl rfl ?_
      refine x1_ald 9 (by decide) (i := 4 * q + i) Z Y (tz_b (tz_4b hq) (tz_4le hq) (tzat_nI hi)) dX1_kick_46 ?_
      refine lv_aload_n hx hb dX1_kick_47 rfl (lv_at hl 0 rfl) ?_
      refine x1_getr 12 (by decide) Z Y q230 dX1_kick_48 ?_
      refine lv_iload_n hx hb dX1_kick_51 rfl (lv_at hl 2 rfl) ?_
      refine x1_ald 12 (by decide) (i := i) Z Y (tzat_nI (show _ < 4 by omega)) dX1_kick_52 ?_
      refine lv_aload_n hx hb dX1_kick_53 rfl (lv_at hl 0 rfl) ?_
      refine x1_geti 7 (by decide) Z Y q225 dX1_kick_54 ?_
      refine lv_ishr hx hb dX1_kick_57 ?_
      refine lv_iadd hx hb dX1_kick_58 ?_
      refine x1_ast 9 (by decide) (i := 4 * q + i) Z Y (tz_b (tz_4b hq) (tz_4le hq) (tzat_nI hi)) dX1_kick_59 (fun H locs Y => ?_)
      refine lv_iinc (v := nI (i + 1)) (lv' := [(2, .int (nI (i + 1))), (0, .ref (a 14)), (1, .int x)]) hx hb dX1_kick_60 hl (k := 2) rfl (tz_inc i) (by decide) rfl (fun ls hl => ?_)
      refine lv_goto (tgt := 31) hx hb dX1_kick_63 (by decide) ?_
      have e9 : tzit (mKk1 (4 * q)) (i + 1) (tzit (mKk0 (4 * q)) 4 u) = tzst (tzit (mKk1 (4 * q)) i (tzit (mKk0 (4 * q)) 4 u)) 9 (4 * q + i) (((tzit (mKk1 (4 * q)) i (tzit (mKk0 (4 * q)) 4 u)) 9 (4 * q + i)) + (((tzit (mKk1 (4 * q)) i (tzit (mKk0 (4 * q)) 4 u)) 12 i) >>> (((tzit (mKk1 (4 * q)) i (tzit (mKk0 (4 * q)) 4 u)) 7 0) &&& 31))) := by
        rw [tzit_s, mKk1, tzad] <;> rfl
      exact ih _ _ _ ⟨by rw [e9]; exact Y, lv_sub hl [1, 2, 0] rfl⟩
    · rintro H locs ls ⟨Y, hl⟩
      refine lv_iload_n hx hb dX1_kick_31 rfl (lv_at hl 2 rfl) ?_
      refine lv_iconst (v := nI 4) hx hb dX1_kick_32 (by decide) ?_
      refine lv_icmp_ge (tgt := 66) hx hb dX1_kick_33 (by decide) (fun _ => ?_) (fun c9 => absurd (Int32.le_refl _) c9)
      exact tz_rv Z hr hlk Y dX1_kick_66 (by rw [mKick])
set_option maxHeartbeats 4000000 in
set_option maxRecDepth 100000 in
theorem kX1_leap (l : Launch) (D : va_G) (a : Nat → Nat) (c : Nat → ClassId) (u : tzS) (ch x : Int32) {n t : Nat} (hW : tzWM u n t) : tzMi l yX1_leap cX1_leap 5 .int (tzR 2) D (wX1 a c) (tX1 c) [.ref (a 14), .int ch, .int x] u ((mLeap u ch x).1) ((mLeap u ch x).2) := by
  refine tzMi.mk RX1 (by decide) rfl (Nat.le_of_ble_eq_true rfl) ?_
  intro p e s m below meth cd A ls Z hr hlk hA Y hl
  have hx := Z.1.1
  have hb := Z.1.2.1
  have hl : lv_has ls 5 [(0, .ref (a 14)), (1, .int ch), (2, .int x)] := hl
  have n24 : n ≤ 24 := hW.2.1
  have t8 : t ≤ 8 := hW.2.2.2.1
  refine lv_aload_n hx hb dX1_leap_0 rfl (lv_at hl 0 rfl) ?_
  refine lv_iload_n hx hb dX1_leap_1 rfl (lv_at hl 1 rfl) ?_
  refine tz_cVi (ci := 1) (C := RX1) Z Y hA ⟨Nat.zero_le _, Nat.zero_le _⟩ (kX1_badChain l D a c u ch) rfl rfl (cwV 1 Z.1.2.2.2.2 (lw_V q309 q311 qs12 q19 q312) rfl rfl rfl (by decide +kernel) ⟨by decide, by decide⟩) rfl hl.1 rfl (Nat.le_of_ble_eq_true rfl) dX1_leap_2 (fun H locs Y => ?_)
  refine lv_if_eq (tgt := 10) hx hb dX1_leap_5 (by decide) (fun c_5 => ?_) (fun c_5 => ?_)
  · have h1 := tz_bC c_5
    refine lv_iload_n hx hb dX1_leap_10 rfl (lv_at hl 2 rfl) ?_
    refine lv_if_lt (tgt := 20) hx hb dX1_leap_11 (by decide) (fun c_11 => ?_) (fun c_11 => ?_)
    · refine lv_bipush (v := (-2)) hx hb dX1_leap_20 (by decide) ?_
      exact tz_ri Z hr hlk Y dX1_leap_22 (by rw [mLeap, if_pos c_5, if_pos c_11] <;> rfl) (by rw [mLeap, if_pos c_5, if_pos c_11] <;> rfl)
    · refine lv_iload_n hx hb dX1_leap_14 rfl (lv_at hl 2 rfl) ?_
      refine lv_bipush (v := 40) hx hb dX1_leap_15 (by decide) ?_
      refine lv_icmp_le (tgt := 23) hx hb dX1_leap_17 (by decide) (fun c_17 => ?_) (fun c_17 => ?_)
      · have hs := tz_40 c_11 c_17
        refine lv_iconst (v := nI 0) hx hb dX1_leap_23 (by decide) ?_
        refine lv_istore_n (lv' := [(3, .int (nI 0)), (0, .ref (a 14)), (1, .int ch), (2, .int x)]) hx hb dX1_leap_24 rfl hl (by decide) rfl (fun ls hl => ?_)
        refine tz_loop (G := fun i H locs ls => tzY D A s.heap (wX1 a c (tzit (mLp1 (4 * tzix ch)) i u)) H locs ∧ lv_has ls 5 [(0, .ref (a 14)), (1, .int ch), (2, .int x), (3, .int (nI i))]) (tzix x) ?_ ?_ ⟨by rw [tzit_0]; exact Y, lv_sub hl [1, 2, 3, 0] rfl⟩
        · rintro i H locs ls hi2 ⟨Y, hl⟩ ih
          have w9 : tzWM (tzit (mLp1 (4 * tzix ch)) i u) n t := hW.kp (mLpI_kp u _ i) (by decide)
          refine lv_iload_n hx hb dX1_leap_25 rfl (lv_at hl 3 rfl) ?_
          refine lv_iload_n hx hb dX1_leap_26 rfl (lv_at hl 2 rfl) ?_
          refine lv_icmp_ge (tgt := 86) hx hb dX1_leap_27 (by decide) (fun c9 => absurd c9 (tz_gef hs hi2 (by decide))) (fun _ => ?_)
          refine lv_aload_n hx hb dX1_leap_30 rfl (lv_at hl 0 rfl) ?_
          refine lv_iload_n hx hb dX1_leap_31 rfl (lv_at hl 1 rfl) ?_
          refine tz_cVv (ci := 1) (C := RX1) Z Y hA ⟨Nat.zero_le _, Nat.zero_le _⟩ (kX1_kick l D a c (tzit (mLp1 (4 * tzix ch)) i u) ch h1 w9) rfl rfl (cwV 1 Z.1.2.2.2.2 (lw_V q365 q367 qs16 q19 q368) rfl rfl rfl (by decide +kernel) ⟨by decide, by decide⟩) rfl hl.1 rfl (Nat.le_of_ble_eq_true rfl) dX1_leap_32 (fun H locs Y => ?_)
          refine lv_iconst (v := nI 0) hx hb dX1_leap_35 (by decide) ?_
          refine lv_istore (lv' := [(4, .int (nI 0)), (0, .ref (a 14)), (1, .int ch), (2, .int x), (3, .int (nI i))]) hx hb dX1_leap_36 hl (by decide) rfl (fun ls hl => ?_)
          refine tz_loop (G := fun q H locs ls => tzY D A s.heap (wX1 a c (tzit (mMv1 (4 * tzix ch)) q (mKick (tzit (mLp1 (4 * tzix ch)) i u) (4 * tzix ch)))) H locs ∧ lv_has ls 5 [(0, .ref (a 14)), (1, .int ch), (2, .int x), (3, .int (nI i)), (4, .int (nI q))]) 4 ?_ ?_ ⟨by rw [tzit_0]; exact Y, lv_sub hl [1, 2, 3, 4, 0] rfl⟩
          · rintro q H locs ls hi ⟨Y, hl⟩ ih
            refine lv_iload hx hb dX1_leap_38 (lv_at hl 4 rfl) ?_
            refine lv_iconst (v := nI 4) hx hb dX1_leap_40 (by decide) ?_
            refine lv_icmp_ge (tgt := 75) hx hb dX1_leap_41 (by decide) (fun c9 => absurd c9 (nI_ge hi (by omega))) (fun _ => ?_)
            refine lv_aload_n hx hb dX1_leap_44 rfl (lv_at hl 0 rfl) ?_
            refine x1_getr 8 (by decide) Z Y q226 dX1_leap_45 ?_
            refine lv_iconst (v := 4) hx hb dX1_leap_48 (by decide) ?_
            refine lv_iload_n hx hb dX1_leap_49 rfl (lv_at hl 1 rfl) ?_
            refine lv_imul hx hb dX1_leap_50 ?_
            refine lv_iload hx hb dX1_leap_51 (lv_at hl 4 rfl) ?_
            refine lv_iadd hx hb dX1_leap_53 ?_
            refine lv_dup2_11 hx hb dX1_leap_54 rfl rfl ?_
            refine x1_ald 8 (by decide) (i := (4 * tzix ch) + q) Z Y (tz_b (tz_4b h1) (tz_4le h1) (tzat_nI hi)) dX1_leap_55 ?_
            refine lv_aload_n hx hb dX1_leap_56 rfl (lv_at hl 0 rfl) ?_
            refine x1_getr 9 (by decide) Z Y q227 dX1_leap_57 ?_
            refine lv_iconst (v := 4) hx hb dX1_leap_60 (by decide) ?_
            refine lv_iload_n hx hb dX1_leap_61 rfl (lv_at hl 1 rfl) ?_
            refine lv_imul hx hb dX1_leap_62 ?_
            refine lv_iload hx hb dX1_leap_63 (lv_at hl 4 rfl) ?_
            refine lv_iadd hx hb dX1_leap_65 ?_
            refine x1_ald 9 (by decide) (i := (4 * tzix ch) + q) Z Y (tz_b (tz_4b h1) (tz_4le h1) (tzat_nI hi)) dX1_leap_66 ?_
            refine lv_iadd hx hb dX1_leap_67 ?_
            refine x1_ast 8 (by decide) (i := (4 * tzix ch) + q) Z Y (tz_b (tz_4b h1) (tz_4le h1) (tzat_nI hi)) dX1_leap_68 (fun H locs Y => ?_)
            refine lv_iinc (v := nI (q + 1)) (lv' := [(4, .int (nI (q + 1))), (0, .ref (a 14)), (1, .int ch), (2, .int x), (3, .int (nI i))]) hx hb dX1_leap_69 hl (k := 4) rfl (tz_inc q) (by decide) rfl (fun ls hl => ?_)
            refine lv_goto (tgt := 38) hx hb dX1_leap_72 (by decide) ?_
            have e9 : tzit (mMv1 (4 * tzix ch)) (q + 1) (mKick (tzit (mLp1 (4 * tzix ch)) i u) (4 * tzix ch)) = tzst (tzit (mMv1 (4 * tzix ch)) q (mKick (tzit (mLp1 (4 * tzix ch)) i u) (4 * tzix ch))) 8 ((4 * tzix ch) + q) (((tzit (mMv1 (4 * tzix ch)) q (mKick (tzit (mLp1 (4 * tzix ch)) i u) (4 * tzix ch))) 8 ((4 * tzix ch) + q)) + ((tzit (mMv1 (4 * tzix ch)) q (mKick (tzit (mLp1 (4 * tzix ch)) i u) (4 * tzix ch))) 9 ((4 * tzix ch) + q))) := by
              rw [tzit_s, mMv1, tzad] <;> rfl
            exact ih _ _ _ ⟨by rw [e9]; exact Y, lv_sub hl [1, 2, 3, 4, 0] rfl⟩
          · rintro H locs ls ⟨Y, hl⟩
            refine lv_iload hx hb dX1_leap_38 (lv_at hl 4 rfl) ?_
            refine lv_iconst (v := nI 4) hx hb dX1_leap_40 (by decide) ?_
            refine lv_icmp_ge (tgt := 75) hx hb dX1_leap_41 (by decide) (fun _ => ?_) (fun c9 => absurd (Int32.le_refl _) c9)
            refine lv_aload_n hx hb dX1_leap_75 rfl (lv_at hl 0 rfl) ?_
            refine lv_iload_n hx hb dX1_leap_76 rfl (lv_at hl 1 rfl) ?_
            refine tz_cVv (ci := 1) (C := RX1) Z Y hA ⟨Nat.zero_le _, Nat.zero_le _⟩ (kX1_kick l D a c (tzit (mMv1 (4 * tzix ch)) 4 (mKick (tzit (mLp1 (4 * tzix ch)) i u) (4 * tzix ch))) ch h1 (w9.kp (((mKick_kp _ _).mono (S' := [8, 9, 10, 11, 12]) (by decide)).tr ((mMvI_kp _ _ 4).mono (by decide))) (by decide))) rfl rfl (cwV 1 Z.1.2.2.2.2 (lw_V q365 q367 qs16 q19 q368) rfl rfl rfl (by decide +kernel) ⟨by decide, by decide⟩) rfl hl.1 rfl (Nat.le_of_ble_eq_true rfl) dX1_leap_77 (fun H locs Y => ?_)
            refine lv_iinc (v := nI (i + 1)) (lv' := [(3, .int (nI (i + 1))), (0, .ref (a 14)), (1, .int ch), (2, .int x), (4, .int (nI 4))]) hx hb dX1_leap_80 hl (k := 3) rfl (tz_inc i) (by decide) rfl (fun ls hl => ?_)
            refine lv_goto (tgt := 25) hx hb dX1_leap_83 (by decide) ?_
            have e9 : tzit (mLp1 (4 * tzix ch)) (i + 1) u = mKick (tzit (mMv1 (4 * tzix ch)) 4 (mKick (tzit (mLp1 (4 * tzix ch)) i u) (4 * tzix ch))) (4 * tzix ch) := by
              rw [tzit_s, mLp1]
            exact ih _ _ _ ⟨by rw [e9]; exact Y, lv_sub hl [1, 2, 3, 0] rfl⟩
        · rintro H locs ls ⟨Y, hl⟩
          have w9 : tzWM (tzit (mLp1 (4 * tzix ch)) (tzix x) u) n t := hW.kp (mLpI_kp u _ _) (by decide)
          refine lv_iload_n hx hb dX1_leap_25 rfl (lv_at hl 3 rfl) ?_
          refine lv_iload_n hx hb dX1_leap_26 rfl (lv_at hl 2 rfl) ?_
          refine lv_icmp_ge (tgt := 86) hx hb dX1_leap_27 (by decide) (fun _ => ?_) (fun c9 => absurd (tz_get hs) c9)
          refine lv_aload_n hx hb dX1_leap_86 rfl (lv_at hl 0 rfl) ?_
          refine lv_iload_n hx hb dX1_leap_87 rfl (lv_at hl 1 rfl) ?_
          refine lv_iconst (v := 0) hx hb dX1_leap_88 (by decide) ?_
          refine tz_cVv (ci := 1) (C := RX1) Z Y hA ⟨Nat.zero_le _, Nat.zero_le _⟩ (kX1_work l D a c (tzit (mLp1 (4 * tzix ch)) (tzix x) u) ch 0 h1 w9) rfl rfl (cwV 2 Z.1.2.2.2.2 (lw_V q333 q335 qs13 q19 q336) rfl rfl rfl (by decide +kernel) ⟨by decide, by decide⟩) rfl hl.1 rfl (Nat.le_of_ble_eq_true rfl) dX1_leap_89 (fun H locs Y => ?_)
          refine lv_aload_n hx hb dX1_leap_92 rfl (lv_at hl 0 rfl) ?_
          refine tz_cVi (ci := 1) (C := RX1) Z Y hA ⟨Nat.zero_le _, Nat.zero_le _⟩ (kX1_total l D a c (mWork (tzit (mLp1 (4 * tzix ch)) (tzix x) u) (4 * tzix ch) 0) (w9.kp (mWork_kp _ _ _) (by decide))) rfl rfl (cwV 0 Z.1.2.2.2.2 (lw_V q341 q343 qs14 q19 q344) rfl rfl rfl (by decide +kernel) ⟨by decide, by decide⟩) rfl hl.1 rfl (Nat.le_of_ble_eq_true rfl) dX1_leap_93 (fun H locs Y => ?_)
          refine lv_sipush (v := 255) hx hb dX1_leap_96 (by decide) ?_
          refine lv_iand hx hb dX1_leap_99 ?_
          exact tz_ri Z hr hlk Y dX1_leap_100 (by rw [mLeap, if_pos c_5, if_neg c_11, if_pos c_17, mLpS]) (by rw [mLeap, if_pos c_5, if_neg c_11, if_pos c_17, mLpS])
      · refine lv_bipush (v := (-2)) hx hb dX1_leap_20 (by decide) ?_
        exact tz_ri Z hr hlk Y dX1_leap_22 (by rw [mLeap, if_pos c_5, if_neg c_11, if_neg c_17] <;> rfl) (by rw [mLeap, if_pos c_5, if_neg c_11, if_neg c_17] <;> rfl)
  · refine lv_iconst (v := (-1)) hx hb dX1_leap_8 (by decide) ?_
    exact tz_ri Z hr hlk Y dX1_leap_9 (by rw [mLeap, if_neg c_5] <;> rfl) (by rw [mLeap, if_neg c_5] <;> rfl)
set_option maxHeartbeats 4000000 in
set_option maxRecDepth 100000 in
theorem kX1_turn (l : Launch) (D : va_G) (a : Nat → Nat) (c : Nat → ClassId) (u : tzS) (ch : Int32) : tzMi l yX1_turn cX1_turn 3 .int (tzR 1) D (wX1 a c) (tX1 c) [.ref (a 14), .int ch] u ((mTurn u ch).1) ((mTurn u ch).2) := by
  refine tzMi.mk RX1 (by decide) rfl (Nat.le_of_ble_eq_true rfl) ?_
  intro p e s m below meth cd A ls Z hr hlk hA Y hl
  have hx := Z.1.1
  have hb := Z.1.2.1
  have hl : lv_has ls 3 [(0, .ref (a 14)), (1, .int ch)] := hl
  refine lv_aload_n hx hb dX1_turn_0 rfl (lv_at hl 0 rfl) ?_
  refine lv_iload_n hx hb dX1_turn_1 rfl (lv_at hl 1 rfl) ?_
  refine tz_cVi (ci := 1) (C := RX1) Z Y hA ⟨Nat.zero_le _, Nat.zero_le _⟩ (kX1_badChain l D a c u ch) rfl rfl (cwV 1 Z.1.2.2.2.2 (lw_V q309 q311 qs12 q19 q312) rfl rfl rfl (by decide +kernel) ⟨by decide, by decide⟩) rfl hl.1 rfl (Nat.le_of_ble_eq_true rfl) dX1_turn_2 (fun H locs Y => ?_)
  refine lv_if_eq (tgt := 10) hx hb dX1_turn_5 (by decide) (fun c_5 => ?_) (fun c_5 => ?_)
  · have h1 := tz_bC c_5
    refine lv_iconst (v := nI 0) hx hb dX1_turn_10 (by decide) ?_
    refine lv_istore_n (lv' := [(2, .int (nI 0)), (0, .ref (a 14)), (1, .int ch)]) hx hb dX1_turn_11 rfl hl (by decide) rfl (fun ls hl => ?_)
    refine tz_loop (G := fun i H locs ls => tzY D A s.heap (wX1 a c (tzit (mTn1 (4 * tzix ch)) i u)) H locs ∧ lv_has ls 3 [(0, .ref (a 14)), (1, .int ch), (2, .int (nI i))]) 4 ?_ ?_ ⟨by rw [tzit_0]; exact Y, lv_sub hl [1, 2, 0] rfl⟩
    · rintro i H locs ls hi ⟨Y, hl⟩ ih
      refine lv_iload_n hx hb dX1_turn_12 rfl (lv_at hl 2 rfl) ?_
      refine lv_iconst (v := nI 4) hx hb dX1_turn_13 (by decide) ?_
      refine lv_icmp_ge (tgt := 44) hx hb dX1_turn_14 (by decide) (fun c9 => absurd c9 (nI_ge hi (by omega))) (fun _ => ?_)
      refine lv_aload_n hx hb dX1_turn_17 rfl (lv_at hl 0 rfl) ?_
      refine x1_getr 9 (by decide) Z Y q227 dX1_turn_18 ?_
      refine lv_iconst (v := 4) hx hb dX1_turn_21 (by decide) ?_
      refine lv_iload_n hx hb dX1_turn_22 rfl (lv_at hl 1 rfl) ?_
      refine lv_imul hx hb dX1_turn_23 ?_
      refine lv_iload_n hx hb dX1_turn_24 rfl (lv_at hl 2 rfl) ?_
      refine lv_iadd hx hb dX1_turn_25 ?_
      refine lv_aload_n hx hb dX1_turn_26 rfl (lv_at hl 0 rfl) ?_
      refine x1_getr 9 (by decide) Z Y q227 dX1_turn_27 ?_
      refine lv_iconst (v := 4) hx hb dX1_turn_30 (by decide) ?_
      refine lv_iload_n hx hb dX1_turn_31 rfl (lv_at hl 1 rfl) ?_
      refine lv_imul hx hb dX1_turn_32 ?_
      refine lv_iload_n hx hb dX1_turn_33 rfl (lv_at hl 2 rfl) ?_
      refine lv_iadd hx hb dX1_turn_34 ?_
      refine x1_ald 9 (by decide) (i := (4 * tzix ch) + i) Z Y (tz_b (tz_4b h1) (tz_4le h1) (tzat_nI hi)) dX1_turn_35 ?_
      refine lv_ineg hx hb dX1_turn_36 ?_
      refine x1_ast 9 (by decide) (i := (4 * tzix ch) + i) Z Y (tz_b (tz_4b h1) (tz_4le h1) (tzat_nI hi)) dX1_turn_37 (fun H locs Y => ?_)
      refine lv_iinc (v := nI (i + 1)) (lv' := [(2, .int (nI (i + 1))), (0, .ref (a 14)), (1, .int ch)]) hx hb dX1_turn_38 hl (k := 2) rfl (tz_inc i) (by decide) rfl (fun ls hl => ?_)
      refine lv_goto (tgt := 12) hx hb dX1_turn_41 (by decide) ?_
      have e9 : tzit (mTn1 (4 * tzix ch)) (i + 1) u = tzst (tzit (mTn1 (4 * tzix ch)) i u) 9 ((4 * tzix ch) + i) (-((tzit (mTn1 (4 * tzix ch)) i u) 9 ((4 * tzix ch) + i))) := by
        rw [tzit_s, mTn1] <;> rfl
      exact ih _ _ _ ⟨by rw [e9]; exact Y, lv_sub hl [1, 2, 0] rfl⟩
    · rintro H locs ls ⟨Y, hl⟩
      refine lv_iload_n hx hb dX1_turn_12 rfl (lv_at hl 2 rfl) ?_
      refine lv_iconst (v := nI 4) hx hb dX1_turn_13 (by decide) ?_
      refine lv_icmp_ge (tgt := 44) hx hb dX1_turn_14 (by decide) (fun _ => ?_) (fun c9 => absurd (Int32.le_refl _) c9)
      refine lv_iconst (v := 0) hx hb dX1_turn_44 (by decide) ?_
      exact tz_ri Z hr hlk Y dX1_turn_45 (by rw [mTurn, if_pos c_5] <;> rfl) (by rw [mTurn, if_pos c_5] <;> rfl)
  · refine lv_iconst (v := (-1)) hx hb dX1_turn_8 (by decide) ?_
    exact tz_ri Z hr hlk Y dX1_turn_9 (by rw [mTurn, if_neg c_5] <;> rfl) (by rw [mTurn, if_neg c_5] <;> rfl)
set_option maxHeartbeats 4000000 in
set_option maxRecDepth 100000 in
theorem kX1_copy (l : Launch) (D : va_G) (a : Nat → Nat) (c : Nat → ClassId) (u : tzS) (x y : Int32) : tzMi l yX1_copy cX1_copy 4 .int (tzR 1) D (wX1 a c) (tX1 c) [.ref (a 14), .int x, .int y] u ((mCopy u x y).1) ((mCopy u x y).2) := by
  refine tzMi.mk RX1 (by decide) rfl (Nat.le_of_ble_eq_true rfl) ?_
  intro p e s m below meth cd A ls Z hr hlk hA Y hl
  have hx := Z.1.1
  have hb := Z.1.2.1
  have hl : lv_has ls 4 [(0, .ref (a 14)), (1, .int x), (2, .int y)] := hl
  refine lv_aload_n hx hb dX1_copy_0 rfl (lv_at hl 0 rfl) ?_
  refine lv_iload_n hx hb dX1_copy_1 rfl (lv_at hl 1 rfl) ?_
  refine tz_cVi (ci := 1) (C := RX1) Z Y hA ⟨Nat.zero_le _, Nat.zero_le _⟩ (kX1_badChain l D a c u x) rfl rfl (cwV 1 Z.1.2.2.2.2 (lw_V q309 q311 qs12 q19 q312) rfl rfl rfl (by decide +kernel) ⟨by decide, by decide⟩) rfl hl.1 rfl (Nat.le_of_ble_eq_true rfl) dX1_copy_2 (fun H locs Y => ?_)
  refine lv_if_ne (tgt := 16) hx hb dX1_copy_5 (by decide) (fun c_5 => ?_) (fun c_5 => ?_)
  · refine lv_iconst (v := (-1)) hx hb dX1_copy_16 (by decide) ?_
    exact tz_ri Z hr hlk Y dX1_copy_17 (by rw [mCopy, if_neg c_5] <;> rfl) (by rw [mCopy, if_neg c_5] <;> rfl)
  · have h1 := tz_bC c_5
    refine lv_aload_n hx hb dX1_copy_8 rfl (lv_at hl 0 rfl) ?_
    refine lv_iload_n hx hb dX1_copy_9 rfl (lv_at hl 2 rfl) ?_
    refine tz_cVi (ci := 1) (C := RX1) Z Y hA ⟨Nat.zero_le _, Nat.zero_le _⟩ (kX1_badChain l D a c u y) rfl rfl (cwV 1 Z.1.2.2.2.2 (lw_V q309 q311 qs12 q19 q312) rfl rfl rfl (by decide +kernel) ⟨by decide, by decide⟩) rfl hl.1 rfl (Nat.le_of_ble_eq_true rfl) dX1_copy_10 (fun H locs Y => ?_)
    refine lv_if_eq (tgt := 18) hx hb dX1_copy_13 (by decide) (fun c_13 => ?_) (fun c_13 => ?_)
    · have h2 := tz_bC c_13
      refine lv_iconst (v := nI 0) hx hb dX1_copy_18 (by decide) ?_
      refine lv_istore_n (lv' := [(3, .int (nI 0)), (0, .ref (a 14)), (1, .int x), (2, .int y)]) hx hb dX1_copy_19 rfl hl (by decide) rfl (fun ls hl => ?_)
      refine tz_loop (G := fun i H locs ls => tzY D A s.heap (wX1 a c (tzit (mCp1 (4 * tzix x) (4 * tzix y)) i u)) H locs ∧ lv_has ls 4 [(0, .ref (a 14)), (1, .int x), (2, .int y), (3, .int (nI i))]) 4 ?_ ?_ ⟨by rw [tzit_0]; exact Y, lv_sub hl [1, 2, 3, 0] rfl⟩
      · rintro i H locs ls hi ⟨Y, hl⟩ ih
        refine lv_iload_n hx hb dX1_copy_20 rfl (lv_at hl 3 rfl) ?_
        refine lv_iconst (v := nI 4) hx hb dX1_copy_21 (by decide) ?_
        refine lv_icmp_ge (tgt := 71) hx hb dX1_copy_22 (by decide) (fun c9 => absurd c9 (nI_ge hi (by omega))) (fun _ => ?_)
        refine lv_aload_n hx hb dX1_copy_25 rfl (lv_at hl 0 rfl) ?_
        refine x1_getr 8 (by decide) Z Y q226 dX1_copy_26 ?_
        refine lv_iconst (v := 4) hx hb dX1_copy_29 (by decide) ?_
        refine lv_iload_n hx hb dX1_copy_30 rfl (lv_at hl 2 rfl) ?_
        refine lv_imul hx hb dX1_copy_31 ?_
        refine lv_iload_n hx hb dX1_copy_32 rfl (lv_at hl 3 rfl) ?_
        refine lv_iadd hx hb dX1_copy_33 ?_
        refine lv_aload_n hx hb dX1_copy_34 rfl (lv_at hl 0 rfl) ?_
        refine x1_getr 8 (by decide) Z Y q226 dX1_copy_35 ?_
        refine lv_iconst (v := 4) hx hb dX1_copy_38 (by decide) ?_
        refine lv_iload_n hx hb dX1_copy_39 rfl (lv_at hl 1 rfl) ?_
        refine lv_imul hx hb dX1_copy_40 ?_
        refine lv_iload_n hx hb dX1_copy_41 rfl (lv_at hl 3 rfl) ?_
        refine lv_iadd hx hb dX1_copy_42 ?_
        refine x1_ald 8 (by decide) (i := (4 * tzix x) + i) Z Y (tz_b (tz_4b h1) (tz_4le h1) (tzat_nI hi)) dX1_copy_43 ?_
        refine x1_ast 8 (by decide) (i := (4 * tzix y) + i) Z Y (tz_b (tz_4b h2) (tz_4le h2) (tzat_nI hi)) dX1_copy_44 (fun H locs Y => ?_)
        refine lv_aload_n hx hb dX1_copy_45 rfl (lv_at hl 0 rfl) ?_
        refine x1_getr 9 (by decide) Z Y q227 dX1_copy_46 ?_
        refine lv_iconst (v := 4) hx hb dX1_copy_49 (by decide) ?_
        refine lv_iload_n hx hb dX1_copy_50 rfl (lv_at hl 2 rfl) ?_
        refine lv_imul hx hb dX1_copy_51 ?_
        refine lv_iload_n hx hb dX1_copy_52 rfl (lv_at hl 3 rfl) ?_
        refine lv_iadd hx hb dX1_copy_53 ?_
        refine lv_aload_n hx hb dX1_copy_54 rfl (lv_at hl 0 rfl) ?_
        refine x1_getr 9 (by decide) Z Y q227 dX1_copy_55 ?_
        refine lv_iconst (v := 4) hx hb dX1_copy_58 (by decide) ?_
        refine lv_iload_n hx hb dX1_copy_59 rfl (lv_at hl 1 rfl) ?_
        refine lv_imul hx hb dX1_copy_60 ?_
        refine lv_iload_n hx hb dX1_copy_61 rfl (lv_at hl 3 rfl) ?_
        refine lv_iadd hx hb dX1_copy_62 ?_
        refine x1_ald 9 (by decide) (i := (4 * tzix x) + i) Z Y (tz_b (tz_4b h1) (tz_4le h1) (tzat_nI hi)) dX1_copy_63 ?_
        refine x1_ast 9 (by decide) (i := (4 * tzix y) + i) Z Y (tz_b (tz_4b h2) (tz_4le h2) (tzat_nI hi)) dX1_copy_64 (fun H locs Y => ?_)
        refine lv_iinc (v := nI (i + 1)) (lv' := [(3, .int (nI (i + 1))), (0, .ref (a 14)), (1, .int x), (2, .int y)]) hx hb dX1_copy_65 hl (k := 3) rfl (tz_inc i) (by decide) rfl (fun ls hl => ?_)
        refine lv_goto (tgt := 20) hx hb dX1_copy_68 (by decide) ?_
        have e9 : tzit (mCp1 (4 * tzix x) (4 * tzix y)) (i + 1) u = tzst (tzst (tzit (mCp1 (4 * tzix x) (4 * tzix y)) i u) 8 ((4 * tzix y) + i) ((tzit (mCp1 (4 * tzix x) (4 * tzix y)) i u) 8 ((4 * tzix x) + i))) 9 ((4 * tzix y) + i) ((tzst (tzit (mCp1 (4 * tzix x) (4 * tzix y)) i u) 8 ((4 * tzix y) + i) ((tzit (mCp1 (4 * tzix x) (4 * tzix y)) i u) 8 ((4 * tzix x) + i))) 9 ((4 * tzix x) + i)) := by
          rw [tzit_s, mCp1] <;> rfl
        exact ih _ _ _ ⟨by rw [e9]; exact Y, lv_sub hl [1, 2, 3, 0] rfl⟩
      · rintro H locs ls ⟨Y, hl⟩
        refine lv_iload_n hx hb dX1_copy_20 rfl (lv_at hl 3 rfl) ?_
        refine lv_iconst (v := nI 4) hx hb dX1_copy_21 (by decide) ?_
        refine lv_icmp_ge (tgt := 71) hx hb dX1_copy_22 (by decide) (fun _ => ?_) (fun c9 => absurd (Int32.le_refl _) c9)
        refine lv_iconst (v := 0) hx hb dX1_copy_71 (by decide) ?_
        exact tz_ri Z hr hlk Y dX1_copy_72 (by rw [mCopy, if_pos c_5, if_pos c_13] <;> rfl) (by rw [mCopy, if_pos c_5, if_pos c_13] <;> rfl)
    · refine lv_iconst (v := (-1)) hx hb dX1_copy_16 (by decide) ?_
      exact tz_ri Z hr hlk Y dX1_copy_17 (by rw [mCopy, if_pos c_5, if_neg c_13] <;> rfl) (by rw [mCopy, if_pos c_5, if_neg c_13] <;> rfl)
set_option maxHeartbeats 4000000 in
set_option maxRecDepth 100000 in
theorem kX1_live (l : Launch) (D : va_G) (a : Nat → Nat) (c : Nat → ClassId) (u : tzS) {n t : Nat} (hW : tzWM u n t) : tzMi l yX1_live cX1_live 3 .int (tzR 0) D (wX1 a c) (tX1 c) [.ref (a 14)] u ((mLive u).1) ((mLive u).2) := by
  refine tzMi.mk RX1 (by decide) rfl (Nat.le_of_ble_eq_true rfl) ?_
  intro p e s m below meth cd A ls Z hr hlk hA Y hl
  have hx := Z.1.1
  have hb := Z.1.2.1
  have hl : lv_has ls 3 [(0, .ref (a 14))] := hl
  have n24 : n ≤ 24 := hW.2.1
  have t8 : t ≤ 8 := hW.2.2.2.1
  refine lv_iconst (v := nI 0) hx hb dX1_live_0 (by decide) ?_
  refine lv_istore_n (lv' := [(1, .int (nI 0)), (0, .ref (a 14))]) hx hb dX1_live_1 rfl hl (by decide) rfl (fun ls hl => ?_)
  refine tz_loop (G := fun i H locs ls => tzY D A s.heap (wX1 a c (tzit mUs0 i u)) H locs ∧ lv_has ls 3 [(0, .ref (a 14)), (1, .int (nI i))]) 24 ?_ ?_ ⟨by rw [tzit_0]; exact Y, lv_sub hl [1, 0] rfl⟩
  · rintro i H locs ls hi ⟨Y, hl⟩ ih
    refine lv_iload_n hx hb dX1_live_2 rfl (lv_at hl 1 rfl) ?_
    refine lv_bipush (v := nI 24) hx hb dX1_live_3 (by decide) ?_
    refine lv_icmp_ge (tgt := 21) hx hb dX1_live_5 (by decide) (fun c9 => absurd c9 (nI_ge hi (by omega))) (fun _ => ?_)
    refine lv_aload_n hx hb dX1_live_8 rfl (lv_at hl 0 rfl) ?_
    refine x1_getr 13 (by decide) Z Y q231 dX1_live_9 ?_
    refine lv_iload_n hx hb dX1_live_12 rfl (lv_at hl 1 rfl) ?_
    refine lv_iconst (v := 0) hx hb dX1_live_13 (by decide) ?_
    refine x1_zast (i := i) (v := 0) Z Y (tzat_nI (show _ < 24 by omega)) (by decide) dX1_live_14 (fun H locs Y => ?_)
    refine lv_iinc (v := nI (i + 1)) (lv' := [(1, .int (nI (i + 1))), (0, .ref (a 14))]) hx hb dX1_live_15 hl (k := 1) rfl (tz_inc i) (by decide) rfl (fun ls hl => ?_)
    refine lv_goto (tgt := 2) hx hb dX1_live_18 (by decide) ?_
    have e9 : tzit mUs0 (i + 1) u = tzst (tzit mUs0 i u) 13 i 0 := by
      rw [tzit_s, mUs0] <;> rfl
    exact ih _ _ _ ⟨by rw [e9]; exact Y, lv_sub hl [1, 0] rfl⟩
  · rintro H locs ls ⟨Y, hl⟩
    refine lv_iload_n hx hb dX1_live_2 rfl (lv_at hl 1 rfl) ?_
    refine lv_bipush (v := nI 24) hx hb dX1_live_3 (by decide) ?_
    refine lv_icmp_ge (tgt := 21) hx hb dX1_live_5 (by decide) (fun _ => ?_) (fun c9 => absurd (Int32.le_refl _) c9)
    refine lv_iconst (v := nI 0) hx hb dX1_live_21 (by decide) ?_
    refine lv_istore_n (lv' := [(1, .int (nI 0)), (0, .ref (a 14))]) hx hb dX1_live_22 rfl hl (by decide) rfl (fun ls hl => ?_)
    refine tz_loop (G := fun i H locs ls => tzY D A s.heap (wX1 a c (tzit mUs1 i (tzit mUs0 24 u))) H locs ∧ lv_has ls 3 [(0, .ref (a 14)), (1, .int (nI i))]) t ?_ ?_ ⟨by rw [tzit_0]; exact Y, lv_sub hl [1, 0] rfl⟩
    · rintro i H locs ls hi ⟨Y, hl⟩ ih
      have w9 : tzWM (tzit mUs1 i (tzit mUs0 24 u)) n t := hW.kp (mLvB_kp u i) (by decide)
      refine lv_iload_n hx hb dX1_live_23 rfl (lv_at hl 1 rfl) ?_
      refine lv_aload_n hx hb dX1_live_24 rfl (lv_at hl 0 rfl) ?_
      refine x1_geti 4 (by decide) Z Y q222 dX1_live_25 ?_
      refine tz_top (y := nI t) w9.2.2.1 ?_
      refine lv_icmp_ge (tgt := 55) hx hb dX1_live_28 (by decide) (fun c9 => absurd c9 (nI_ge hi (by omega))) (fun _ => ?_)
      refine lv_iload_n hx hb dX1_live_31 rfl (lv_at hl 1 rfl) ?_
      refine lv_bipush (v := nI 8) hx hb dX1_live_32 (by decide) ?_
      refine lv_icmp_ge (tgt := 55) hx hb dX1_live_34 (by decide) (fun c9 => absurd c9 (nI_ge (show i < 8 by omega) (by omega))) (fun _ => ?_)
      refine lv_aload_n hx hb dX1_live_37 rfl (lv_at hl 0 rfl) ?_
      refine x1_getr 13 (by decide) Z Y q231 dX1_live_38 ?_
      refine lv_aload_n hx hb dX1_live_41 rfl (lv_at hl 0 rfl) ?_
      refine x1_getr 5 (by decide) Z Y q223 dX1_live_42 ?_
      refine lv_iload_n hx hb dX1_live_45 rfl (lv_at hl 1 rfl) ?_
      refine x1_ald 5 (by decide) (i := i) Z Y (tzat_nI (show _ < 8 by omega)) dX1_live_46 ?_
      refine lv_iconst (v := 1) hx hb dX1_live_47 (by decide) ?_
      refine x1_zast (i := tzix ((tzit mUs1 i (tzit mUs0 24 u)) 5 i)) (v := 1) Z Y (w9.tn hi) (by decide) dX1_live_48 (fun H locs Y => ?_)
      refine lv_iinc (v := nI (i + 1)) (lv' := [(1, .int (nI (i + 1))), (0, .ref (a 14))]) hx hb dX1_live_49 hl (k := 1) rfl (tz_inc i) (by decide) rfl (fun ls hl => ?_)
      refine lv_goto (tgt := 23) hx hb dX1_live_52 (by decide) ?_
      have e9 : tzit mUs1 (i + 1) (tzit mUs0 24 u) = tzst (tzit mUs1 i (tzit mUs0 24 u)) 13 (tzix ((tzit mUs1 i (tzit mUs0 24 u)) 5 i)) 1 := by
        rw [tzit_s, mUs1] <;> rfl
      exact ih _ _ _ ⟨by rw [e9]; exact Y, lv_sub hl [1, 0] rfl⟩
    · rintro H locs ls ⟨Y, hl⟩
      have w9 : tzWM (tzit mUs1 t (tzit mUs0 24 u)) n t := hW.kp (mLvB_kp u t) (by decide)
      refine lv_iload_n hx hb dX1_live_23 rfl (lv_at hl 1 rfl) ?_
      refine lv_aload_n hx hb dX1_live_24 rfl (lv_at hl 0 rfl) ?_
      refine x1_geti 4 (by decide) Z Y q222 dX1_live_25 ?_
      refine tz_top (y := nI t) w9.2.2.1 ?_
      refine lv_icmp_ge (tgt := 55) hx hb dX1_live_28 (by decide) (fun _ => ?_) (fun c9 => absurd (Int32.le_refl _) c9)
      refine lv_iconst (v := 0) hx hb dX1_live_55 (by decide) ?_
      refine lv_istore_n (lv' := [(1, .int 0), (0, .ref (a 14))]) hx hb dX1_live_56 rfl hl (by decide) rfl (fun ls hl => ?_)
      refine lv_aload_n hx hb dX1_live_57 rfl (lv_at hl 1 rfl) ?_
      refine x1_geti 0 (by decide) Z Y q218 dX1_live_58 ?_
      refine tz_top (y := nI n) w9.1 ?_
      refine lv_iconst (v := 1) hx hb dX1_live_61 (by decide) ?_
      refine lv_isub hx hb dX1_live_62 ?_
      refine lv_istore_n (lv' := [(2, .int ((nI n) - 1)), (1, .int 0), (0, .ref (a 14))]) hx hb dX1_live_63 rfl hl (by decide) rfl (fun ls hl => ?_)
      refine tz_loopD (G := fun r H locs ls => ∃ z x, tzY D A s.heap (wX1 a c z) H locs ∧ lv_has ls 3 [(0, .ref (a 14)), (1, .int x), (2, .int (nI r - 1))] ∧ mCnt r z x = mCnt n (tzit mUs1 t (tzit mUs0 24 u)) 0 ∧ tzdn mUs2 r z = tzdn mUs2 n (tzit mUs1 t (tzit mUs0 24 u)) ∧ tzKp [13] u z) n ?_ ?_ ⟨_, _, Y, lv_sub hl [2, 1, 0] rfl, ⟨rfl, rfl, mLvB_kp u t⟩⟩
      · rintro r H locs ls hi ⟨z, x, Y, hl, ⟨h8, h9, k9⟩⟩ ih
        rw [nI_pred] at hl
        have w9 : tzWM z n t := hW.kp k9 (by decide)
        refine lv_iload_n hx hb dX1_live_64 rfl (lv_at hl 2 rfl) ?_
        refine lv_if_lt (tgt := 126) hx hb dX1_live_65 (by decide) (fun c9 => absurd c9 (nI_pos (by omega))) (fun _ => ?_)
        refine lv_iload_n hx hb dX1_live_68 rfl (lv_at hl 2 rfl) ?_
        refine lv_bipush (v := nI 24) hx hb dX1_live_69 (by decide) ?_
        refine lv_icmp_ge (tgt := 120) hx hb dX1_live_71 (by decide) (fun c9 => absurd c9 (nI_ge (show r < 24 by omega) (by omega))) (fun _ => ?_)
        refine lv_aload_n hx hb dX1_live_74 rfl (lv_at hl 0 rfl) ?_
        refine x1_getr 13 (by decide) Z Y q231 dX1_live_75 ?_
        refine lv_iload_n hx hb dX1_live_78 rfl (lv_at hl 2 rfl) ?_
        refine x1_zald (i := r) Z Y (tzat_nI (show _ < 24 by omega)) dX1_live_79 ?_
        refine lv_if_eq (tgt := 120) hx hb dX1_live_80 (by decide) (fun c_80 => ?_) (fun c_80 => ?_)
        · refine lv_iinc (v := (nI r) - 1) (lv' := [(2, .int ((nI r) - 1)), (0, .ref (a 14)), (1, .int x)]) hx hb dX1_live_120 hl (k := 2) rfl (tz_dec _) (by decide) rfl (fun ls hl => ?_)
          refine lv_goto (tgt := 64) hx hb dX1_live_123 (by decide) ?_
          have e9 : mUs2 r z = z := by rw [mUs2, if_pos c_80] <;> rfl
          have e8 : mCn1 r z x = x := by rw [mCn1, if_pos c_80]
          exact ih _ _ _ ⟨_, _, Y, lv_sub hl [1, 2, 0] rfl, by rw [← e9, ← e8]; exact h8, by rw [← e9]; exact h9, by rw [← e9]; exact k9.tr (mUs2_kp r z)⟩
        · refine lv_iinc (v := x + 1) (lv' := [(1, .int (x + 1)), (0, .ref (a 14)), (2, .int (nI r))]) hx hb dX1_live_83 hl (k := 1) rfl rfl (by decide) rfl (fun ls hl => ?_)
          refine lv_aload_n hx hb dX1_live_86 rfl (lv_at hl 1 rfl) ?_
          refine x1_getr 1 (by decide) Z Y q219 dX1_live_87 ?_
          refine lv_iload_n hx hb dX1_live_90 rfl (lv_at hl 2 rfl) ?_
          refine x1_ald 1 (by decide) (i := r) Z Y (tzat_nI (show _ < 24 by omega)) dX1_live_91 ?_
          refine lv_iconst (v := 4) hx hb dX1_live_92 (by decide) ?_
          refine lv_icmp_ge (tgt := 120) hx hb dX1_live_93 (by decide) (fun c_93 => ?_) (fun c_93 => ?_)
          · refine lv_iinc (v := (nI r) - 1) (lv' := [(2, .int ((nI r) - 1)), (1, .int (x + 1)), (0, .ref (a 14))]) hx hb dX1_live_120 hl (k := 2) rfl (tz_dec _) (by decide) rfl (fun ls hl => ?_)
            refine lv_goto (tgt := 64) hx hb dX1_live_123 (by decide) ?_
            have e9 : mUs2 r z = z := by rw [mUs2, if_neg c_80, if_pos c_93] <;> rfl
            have e8 : mCn1 r z x = (x + 1) := by rw [mCn1, if_neg c_80]
            exact ih _ _ _ ⟨_, _, Y, lv_sub hl [2, 1, 0] rfl, by rw [← e9, ← e8]; exact h8, by rw [← e9]; exact h9, by rw [← e9]; exact k9.tr (mUs2_kp r z)⟩
          · have h1 := ((w9.nd hi).h c_93).1.le (show r ≤ 24 by omega)
            have h2 := ((w9.nd hi).h c_93).2.le (show r ≤ 24 by omega)
            refine lv_aload_n hx hb dX1_live_96 rfl (lv_at hl 1 rfl) ?_
            refine x1_getr 13 (by decide) Z Y q231 dX1_live_97 ?_
            refine lv_aload_n hx hb dX1_live_100 rfl (lv_at hl 1 rfl) ?_
            refine x1_getr 2 (by decide) Z Y q220 dX1_live_101 ?_
            refine lv_iload_n hx hb dX1_live_104 rfl (lv_at hl 2 rfl) ?_
            refine x1_ald 2 (by decide) (i := r) Z Y (tzat_nI (show _ < 24 by omega)) dX1_live_105 ?_
            refine lv_iconst (v := 1) hx hb dX1_live_106 (by decide) ?_
            refine x1_zast (i := tzix (z 2 r)) (v := 1) Z Y h1 (by decide) dX1_live_107 (fun H locs Y => ?_)
            refine lv_aload_n hx hb dX1_live_108 rfl (lv_at hl 1 rfl) ?_
            refine x1_getr 13 (by decide) Z Y q231 dX1_live_109 ?_
            refine lv_aload_n hx hb dX1_live_112 rfl (lv_at hl 1 rfl) ?_
            refine x1_getr 3 (by decide) Z Y q221 dX1_live_113 ?_
            refine lv_iload_n hx hb dX1_live_116 rfl (lv_at hl 2 rfl) ?_
            refine x1_ald 3 (by decide) (i := r) Z Y (tzat_nI (show _ < 24 by omega)) dX1_live_117 ?_
            refine lv_iconst (v := 1) hx hb dX1_live_118 (by decide) ?_
            refine x1_zast (i := tzix (z 3 r)) (v := 1) Z Y h2 (by decide) dX1_live_119 (fun H locs Y => ?_)
            refine lv_iinc (v := (nI r) - 1) (lv' := [(2, .int ((nI r) - 1)), (1, .int (x + 1)), (0, .ref (a 14))]) hx hb dX1_live_120 hl (k := 2) rfl (tz_dec _) (by decide) rfl (fun ls hl => ?_)
            refine lv_goto (tgt := 64) hx hb dX1_live_123 (by decide) ?_
            have e9 : mUs2 r z = tzst (tzst z 13 (tzix (z 2 r)) 1) 13 (tzix (z 3 r)) 1 := by rw [mUs2, if_neg c_80, if_neg c_93] <;> rfl
            have e8 : mCn1 r z x = (x + 1) := by rw [mCn1, if_neg c_80]
            exact ih _ _ _ ⟨_, _, Y, lv_sub hl [2, 1, 0] rfl, by rw [← e9, ← e8]; exact h8, by rw [← e9]; exact h9, by rw [← e9]; exact k9.tr (mUs2_kp r z)⟩
      · rintro H locs ls ⟨z, x, Y, hl, ⟨h8, h9, k9⟩⟩
        refine lv_iload_n hx hb dX1_live_64 rfl (lv_at hl 2 rfl) ?_
        refine lv_if_lt (tgt := 126) hx hb dX1_live_65 (by decide) (fun _ => ?_) (fun c9 => absurd (by decide +kernel) c9)
        refine lv_iload_n hx hb dX1_live_126 rfl (lv_at hl 1 rfl) ?_
        exact tz_ri Z hr hlk Y dX1_live_127 (by rw [mLive, mLvS, hW.n, hW.t]; exact h8) (by rw [mLive, mLvS, hW.n, hW.t]; exact h9)
end
section
set_option maxRecDepth 100000
/-! THE PLAIN LAW, 1: sums, places, guards -/
theorem sm_congr {f g : Nat → Int32} : ∀ {n : Nat}, (∀ j, j < n → f j = g j) → tzsm f n = tzsm g n
  | 0, _ => rfl
  | n + 1, h => by
    show tzsm f n + f n = tzsm g n + g n
    rw [sm_congr (fun j hj => h j (by omega)), h n (by omega)]
theorem sm_zero {f : Nat → Int32} {n : Nat} (h : ∀ j, j < n → f j = 0) : tzsm f n = 0 := by
  induction n with
  | zero => rfl
  | succ n ih =>
    show tzsm f n + f n = 0
    rw [ih (fun j hj => h j (by omega)), h n (by omega)]
    rfl
theorem sm_add (f g : Nat → Int32) (n : Nat) : tzsm (fun j => f j + g j) n = tzsm f n + tzsm g n := by
  induction n with
  | zero => rfl
  | succ n ih =>
    show tzsm (fun j => f j + g j) n + (f n + g n) = tzsm f n + f n + (tzsm g n + g n)
    rw [ih]
    grind
theorem sm_mul (x : Int32) (f : Nat → Int32) (n : Nat) : tzsm (fun j => x * f j) n = x * tzsm f n := by
  induction n with
  | zero =>
    show (0 : Int32) = x * 0
    grind
  | succ n ih =>
    show tzsm (fun j => x * f j) n + x * f n = x * (tzsm f n + f n)
    rw [ih]
    grind
theorem up_s (f : Nat → Int32) (k : Nat) (x : Int32) : upd f k x k = x := pk_us
theorem up_n (f : Nat → Int32) {k j : Nat} (x : Int32) (h : j ≠ k) : upd f k x j = f j := pk_un h
theorem sm_up (S D : Nat → Int32) (a : Nat) (x : Int32) : ∀ n : Nat, a < n → tzsm (fun j => upd S a (S a + x) j * D j) n = tzsm (fun j => S j * D j) n + x * D a
  | 0, h => absurd h (by omega)
  | n + 1, h => by
    show tzsm (fun j => upd S a (S a + x) j * D j) n + upd S a (S a + x) n * D n = tzsm (fun j => S j * D j) n + S n * D n + x * D a
    by_cases e : a = n
    · subst e
      rw [sm_congr (g := fun j => S j * D j) (fun j hj => by show upd S a (S a + x) j * D j = S j * D j; rw [up_n _ _ (by omega)]), up_s]
      grind
    · rw [sm_up S D a x n (by omega), up_n _ _ (fun q => e q.symm)]
      grind
theorem st_s (u : tzS) (k i : Nat) (x : Int32) : tzst u k i x k = upd (u k) i x := va_up_self _ _ _
theorem st_n (u : tzS) {k j : Nat} (i : Nat) (x : Int32) (h : j ≠ k) : tzst u k i x j = u j := va_up_ne _ _ h
theorem pt_s (u : tzS) (k : Nat) (x : Int32) (j : Nat) : tzpt u k x k j = x := by
  show va_up u k (fun _ => x) k j = x
  rw [va_up_self]
theorem pt_n (u : tzS) {k j : Nat} (x : Int32) (h : j ≠ k) : tzpt u k x j = u j := va_up_ne _ _ h
theorem gC (x : Int32) : mBadC x = 0 ↔ ¬ xIsC x = 0 := by
  unfold mBadC xIsC
  by_cases h1 : x < 0
  · rw [if_pos h1, if_pos h1]; decide
  · rw [if_neg h1, if_neg h1]
    by_cases h2 : x ≤ 2
    · rw [if_pos h2, if_neg (Int32.not_lt.mpr h2)]; decide
    · rw [if_neg h2, if_pos (Int32.not_le.mp h2)]; decide
theorem tz3 (x : Int32) : x ≤ 3 ↔ ¬ 4 ≤ x := by
  rw [Int32.le_iff_toInt_le, Int32.le_iff_toInt_le, show (3 : Int32).toInt = 3 from by decide, show (4 : Int32).toInt = 4 from by decide]
  omega
theorem gP (x : Int32) : mBadP x = 0 ↔ ¬ xIsP x = 0 := by
  unfold mBadP xIsP
  by_cases h1 : x < 0
  · rw [if_pos h1, if_pos h1]; decide
  · rw [if_neg h1, if_neg h1]
    by_cases h2 : 4 ≤ x
    · rw [if_pos h2, if_neg (fun q => (tz3 x).mp q h2)]; decide
    · rw [if_neg h2, if_pos ((tz3 x).mpr h2)]; decide
theorem gN {u v : tzS} {n : Nat} (x : Int32) (hu : u 12 0 = nI n) (hv : v 0 0 = nI n) (hn : n ≤ 24) : mBadN v x = 0 ↔ ¬ xIsN u x = 0 := by
  unfold mBadN xIsN
  rw [hu, hv]
  by_cases h1 : x < 0
  · rw [if_pos h1, if_pos h1]; decide
  · rw [if_neg h1, if_neg h1]
    by_cases h2 : nI n ≤ x
    · rw [if_pos h2, if_pos h2]; decide
    · rw [if_neg h2, if_neg h2]
      rcases pk_ix x (n := n) (by omega) with q | q | ⟨j, hj, e⟩
      · exact absurd q h1
      · exact absurd q h2
      · rw [if_pos (by rw [e, show (23 : Int32) = nI 23 from by decide +kernel]; exact nI_le (by omega) (by decide))]; decide
/-! the kinds: TapeSampler's and the reference's -/
def tzcv (kd : Int32) : Int32 := if kd = 0 then 4 else if kd = 1 then 5 else kd - 2
theorem nok_mok {k : Nat} {kd x y : Int32} (h : tznok k kd x y) : tzmok k (tzcv kd) x y := by
  rcases h with ⟨e, q⟩ | e | ⟨e, q⟩
  · subst e; exact Or.inl ⟨by decide, q⟩
  · subst e; exact Or.inr (Or.inl (by decide))
  · refine Or.inr (Or.inr ⟨?_, q⟩)
    rcases e with e | e | e | e <;> subst e <;> decide
theorem nok_has {k : Nat} {kd x y : Int32} (h : tznok k kd x y) : 4 ≤ tzcv kd ↔ xHas kd = 0 := by
  rcases h with ⟨e, q⟩ | e | ⟨e, q⟩
  · subst e; decide
  · subst e; decide
  · rcases e with e | e | e | e <;> subst e <;> decide
/-- which nodes the target needs -/
def tzND (n t : Nat) (K L R T N : Nat → Int32) : Prop := ∀ k, k < n → (¬ N k = 0 ↔ ((∃ j, j < t ∧ tzix (T j) = k) ∨ ∃ q, q < n ∧ ¬ N q = 0 ∧ ¬ xHas (K q) = 0 ∧ (tzix (L q) = k ∨ tzix (R q) = k)))
/-- the two hold the same -/
def tzRl (u v : tzS) (n t : Nat) : Prop := tzWF u n t ∧ v 0 0 = nI n ∧ v 4 0 = nI t ∧ v 7 0 = u 14 0 ∧ v 2 = u 1 ∧ v 3 = u 2 ∧ v 5 = u 3 ∧ v 6 = u 4 ∧ v 8 = u 5 ∧ v 9 = u 6 ∧ ∀ k, k < n → v 1 k = tzcv (u 0 k)
def tzOk (u : tzS) (n t : Nat) : Prop := u 15 0 = 0 ∨ tzND n t (u 0) (u 1) (u 2) (u 3) (u 10)
def tzInv (u v : tzS) : Prop := ∃ n t, tzRl u v n t ∧ tzOk u n t
theorem tzRl.wf {u v : tzS} {n t : Nat} (h : tzRl u v n t) : tzWF u n t := h.1
theorem tzRl.wm {u v : tzS} {n t : Nat} (h : tzRl u v n t) : tzWM v n t := by
  obtain ⟨⟨h1, h2, h3, h4, h5, h6⟩, c0, c1, c2, c3, c4, c5, c6, c7, c8, c9⟩ := h
  refine ⟨c0, h2, c1, h4, fun k hk => ?_, fun j hj => ?_⟩
  · rw [c9 k hk, c3, c4]
    exact nok_mok (h5 k hk)
  · rw [c5]
    exact h6 j hj
theorem tzRl.kp {S S' : List Nat} {u u' v v' : tzS} {n t : Nat} (h : tzRl u v n t) (hu : tzKp S u u') (hv : tzKp S' v v') (h1 : ∀ k ∈ [0, 1, 2, 3, 4, 5, 6, 12, 13, 14], k ∉ S) (h2 : ∀ k ∈ [0, 1, 2, 3, 4, 5, 6, 7, 8, 9], k ∉ S') : tzRl u' v' n t := by
  refine ⟨h.1.kp hu (fun k hk => h1 k ?_), ?_⟩
  · revert k
    decide
  · rw [hu 0 (h1 0 (by decide)), hu 1 (h1 1 (by decide)), hu 2 (h1 2 (by decide)), hu 3 (h1 3 (by decide)), hu 4 (h1 4 (by decide)), hu 5 (h1 5 (by decide)), hu 6 (h1 6 (by decide)), hu 14 (h1 14 (by decide)),
      hv 0 (h2 0 (by decide)), hv 1 (h2 1 (by decide)), hv 2 (h2 2 (by decide)), hv 3 (h2 3 (by decide)), hv 4 (h2 4 (by decide)), hv 5 (h2 5 (by decide)), hv 6 (h2 6 (by decide)), hv 7 (h2 7 (by decide)), hv 8 (h2 8 (by decide)), hv 9 (h2 9 (by decide))]
    exact h.2
theorem tzOk.kp {S : List Nat} {u u' : tzS} {n t : Nat} (h : tzOk u n t) (hu : tzKp S u u') (h1 : ∀ k ∈ [0, 1, 2, 3, 10, 15], k ∉ S) : tzOk u' n t := by
  unfold tzOk
  rw [hu 0 (h1 0 (by decide)), hu 1 (h1 1 (by decide)), hu 2 (h1 2 (by decide)), hu 3 (h1 3 (by decide)), hu 10 (h1 10 (by decide)), hu 15 (h1 15 (by decide))]
  exact h
end
section
set_option maxRecDepth 100000
/-! THE PLAIN LAW, 2: the plain calls -/
theorem n24 : (24 : Int32) = nI 24 := by decide +kernel
theorem n23 : (23 : Int32) = nI 23 := by decide +kernel
theorem n8 : (8 : Int32) = nI 8 := by decide +kernel
theorem n7 : (7 : Int32) = nI 7 := by decide +kernel
theorem op_make {u v : tzS} (h : tzInv u v) {kd mk x y : Int32} (hm : mk = tzcv kd) (hok : ∀ n, u 12 0 = nI n → n ≤ 24 → tznok n kd x y) : (xMake u kd x y).1 = (mMake v mk x y).1 ∧ tzInv (xMake u kd x y).2 (mMake v mk x y).2 := by
  obtain ⟨n, t, hR, hO⟩ := h
  have hW := hR.1
  by_cases e : n = 24
  · have e1 : u 12 0 = 24 := by rw [hW.1, e, n24]
    have e2 : ¬ v 0 0 ≤ 23 := by rw [hR.2.1, e]; decide +kernel
    rw [xMake, mMake, if_pos e1, if_neg e2]
    exact ⟨rfl, n, t, hR, hO⟩
  · have hn : n < 24 := by have := hW.2.1; omega
    have e1 : ¬ u 12 0 = 24 := by rw [hW.1, n24, nI_eq (by omega) (by decide)]; exact e
    have e2 : v 0 0 ≤ 23 := by rw [hR.2.1, n23]; exact nI_le (by omega) (by decide)
    rw [xMake, mMake, if_neg e1, if_pos e2, hW.n, hR.wm.n, hW.1, hR.2.1]
    refine ⟨?_, n + 1, t, ⟨⟨nI_1 n, by omega, hW.2.2.1, hW.2.2.2.1, fun k hk => ?_, fun j hj => ?_⟩, nI_1 n, hR.2.2.1, hR.2.2.2.1, ?_, ?_, hR.2.2.2.2.2.2.1, hR.2.2.2.2.2.2.2.1, hR.2.2.2.2.2.2.2.2.1, hR.2.2.2.2.2.2.2.2.2.1, fun k hk => ?_⟩, Or.inl rfl⟩
    · show nI n + 1 - 1 = nI n
      rw [nI_1, nI_pred]
    · show tznok k (upd (u 0) n kd k) (upd (u 1) n x k) (upd (u 2) n y k)
      by_cases q : k = n
      · subst q
        rw [up_s, up_s, up_s]
        exact hok k hW.1 hW.2.1
      · rw [up_n _ _ q, up_n _ _ q, up_n _ _ q]
        exact hW.nd (by omega)
    · exact (hW.2.2.2.2.2 j hj).le (by omega)
    · show upd (v 2) n x = upd (u 1) n x
      rw [hR.2.2.2.2.1]
    · show upd (v 3) n y = upd (u 2) n y
      rw [hR.2.2.2.2.2.1]
    · show upd (v 1) n mk k = tzcv (upd (u 0) n kd k)
      by_cases q : k = n
      · subst q
        rw [up_s, up_s, hm]
      · rw [up_n _ _ q, up_n _ _ q]
        exact hR.2.2.2.2.2.2.2.2.2.2 k (by omega)
theorem op_parameter {u v : tzS} (h : tzInv u v) (x : Int32) : (xParam u x).1 = (mParam v x).1 ∧ tzInv (xParam u x).2 (mParam v x).2 := by
  by_cases e : xIsP x = 0
  · rw [xParam, mParam, if_pos e, if_neg (fun q => (gP x).mp q e)]
    exact ⟨rfl, h⟩
  · rw [xParam, mParam, if_neg e, if_pos ((gP x).mpr e)]
    exact op_make h (by decide) (fun n _ _ => Or.inl ⟨rfl, tz_isP e⟩)
theorem op_constant {u v : tzS} (h : tzInv u v) (x : Int32) : (xConst u x).1 = (mConst v x).1 ∧ tzInv (xConst u x).2 (mConst v x).2 :=
  op_make h (by decide) (fun n _ _ => Or.inr (Or.inl rfl))
theorem tz_k2 {kd : Int32} (h : ¬ kd < 0) (h2 : kd ≤ 2) : kd = 0 ∨ kd = 1 ∨ kd = 2 := by
  obtain ⟨j, hj, e⟩ := nI_of2 (M := 2) (n := 2) (by decide) h h2
  rcases (by omega : j = 0 ∨ j = 1 ∨ j = 2) with q | q | q <;> subst q
  · exact Or.inl (e.trans (by decide +kernel))
  · exact Or.inr (Or.inl (e.trans (by decide +kernel)))
  · exact Or.inr (Or.inr (e.trans (by decide +kernel)))
theorem op_combine {u v : tzS} (h : tzInv u v) (kd x y : Int32) : (xComb u kd x y).1 = (mComb v kd x y).1 ∧ tzInv (xComb u kd x y).2 (mComb v kd x y).2 := by
  have h0 := h
  obtain ⟨n, t, hR, hO⟩ := h
  have hW := hR.1
  by_cases c1 : kd < 0
  · rw [xComb, mComb, if_pos c1, if_pos c1]
    exact ⟨rfl, h0⟩
  · by_cases c2 : kd ≤ 2
    · rw [xComb, mComb, if_neg c1, if_neg c1, if_pos c2, if_pos c2]
      by_cases e : n = 24
      · have e1 : u 12 0 = 24 := by rw [hW.1, e, n24]
        have e2 : ¬ v 0 0 ≤ 23 := by rw [hR.2.1, e]; decide +kernel
        rw [if_pos e1, if_neg e2]
        exact ⟨rfl, h0⟩
      · have hn : n < 24 := by have := hW.2.1; omega
        have e1 : ¬ u 12 0 = 24 := by rw [hW.1, n24, nI_eq (by omega) (by decide)]; exact e
        have e2 : v 0 0 ≤ 23 := by rw [hR.2.1, n23]; exact nI_le (by omega) (by decide)
        rw [if_neg e1, if_pos e2]
        by_cases a1 : xIsN u x = 0
        · rw [if_pos a1, if_neg (fun q => (gN x hW.1 hR.2.1 hW.2.1).mp q a1)]
          exact ⟨rfl, h0⟩
        · rw [if_neg a1, if_pos ((gN x hW.1 hR.2.1 hW.2.1).mpr a1)]
          by_cases a2 : xIsN u y = 0
          · rw [if_pos a2, if_neg (fun q => (gN y hW.1 hR.2.1 hW.2.1).mp q a2)]
            exact ⟨rfl, h0⟩
          · rw [if_neg a2, if_pos ((gN y hW.1 hR.2.1 hW.2.1).mpr a2)]
            refine op_make h0 ?_ (fun n' hn' hl' => Or.inr (Or.inr ⟨?_, tz_isN hn' hl' a1, tz_isN hn' hl' a2⟩))
            · rcases tz_k2 c1 c2 with q | q | q <;> subst q <;> decide
            · rcases tz_k2 c1 c2 with q | q | q <;> subst q <;> decide
    · rw [xComb, mComb, if_neg c1, if_neg c1, if_neg c2, if_neg c2]
      exact ⟨rfl, h0⟩
theorem op_square {u v : tzS} (h : tzInv u v) (x : Int32) : (xSq u x).1 = (mSq v x).1 ∧ tzInv (xSq u x).2 (mSq v x).2 := by
  have h0 := h
  obtain ⟨n, t, hR, hO⟩ := h
  have hW := hR.1
  by_cases e : n = 24
  · have e1 : u 12 0 = 24 := by rw [hW.1, e, n24]
    have e2 : ¬ v 0 0 ≤ 23 := by rw [hR.2.1, e]; decide +kernel
    rw [xSq, mSq, if_pos e1, if_neg e2]
    exact ⟨rfl, h0⟩
  · have hn : n < 24 := by have := hW.2.1; omega
    have e1 : ¬ u 12 0 = 24 := by rw [hW.1, n24, nI_eq (by omega) (by decide)]; exact e
    have e2 : v 0 0 ≤ 23 := by rw [hR.2.1, n23]; exact nI_le (by omega) (by decide)
    rw [xSq, mSq, if_neg e1, if_pos e2]
    by_cases a1 : xIsN u x = 0
    · rw [if_pos a1, if_neg (fun q => (gN x hW.1 hR.2.1 hW.2.1).mp q a1)]
      exact ⟨rfl, h0⟩
    · rw [if_neg a1, if_pos ((gN x hW.1 hR.2.1 hW.2.1).mpr a1)]
      exact op_make h0 (by decide) (fun n' hn' hl' => Or.inr (Or.inr ⟨by decide, tz_isN hn' hl' a1, tz_isN hn' hl' a1⟩))
theorem op_term {u v : tzS} (h : tzInv u v) (x y : Int32) : (xTerm u x y).1 = (mTerm v x y).1 ∧ tzInv (xTerm u x y).2 (mTerm v x y).2 := by
  have h0 := h
  obtain ⟨n, t, hR, hO⟩ := h
  have hW := hR.1
  by_cases a1 : xIsN u x = 0
  · rw [xTerm, mTerm, if_pos a1, if_neg (fun q => (gN x hW.1 hR.2.1 hW.2.1).mp q a1)]
    exact ⟨rfl, h0⟩
  · rw [xTerm, mTerm, if_neg a1, if_pos ((gN x hW.1 hR.2.1 hW.2.1).mpr a1)]
    by_cases a2 : y < -20
    · rw [if_pos a2, if_pos a2]
      exact ⟨rfl, h0⟩
    · rw [if_neg a2, if_neg a2]
      by_cases a3 : y ≤ 20
      · rw [if_pos a3, if_pos a3]
        by_cases e : t = 8
        · have e1 : u 13 0 = 8 := by rw [hW.2.2.1, e, n8]
          have e2 : ¬ v 4 0 ≤ 7 := by rw [hR.2.2.1, e]; decide +kernel
          rw [if_pos e1, if_neg e2]
          exact ⟨rfl, h0⟩
        · have ht : t < 8 := by have := hW.2.2.2.1; omega
          have e1 : ¬ u 13 0 = 8 := by rw [hW.2.2.1, n8, nI_eq (by omega) (by decide)]; exact e
          have e2 : v 4 0 ≤ 7 := by rw [hR.2.2.1, n7]; exact nI_le (by omega) (by decide)
          rw [if_neg e1, if_pos e2, hW.t, hR.wm.t, hW.2.2.1, hR.2.2.1]
          refine ⟨rfl, n, t + 1, ⟨⟨hW.1, hW.2.1, nI_1 t, by omega, hW.2.2.2.2.1, fun j hj => ?_⟩, hR.2.1, nI_1 t, hR.2.2.2.1, hR.2.2.2.2.1, hR.2.2.2.2.2.1, ?_, ?_, hR.2.2.2.2.2.2.2.2.1, hR.2.2.2.2.2.2.2.2.2.1, hR.2.2.2.2.2.2.2.2.2.2⟩, Or.inl rfl⟩
          · show tzat (upd (u 3) t x j) (tzix (upd (u 3) t x j)) n
            by_cases q : j = t
            · subst q
              rw [up_s]
              exact tz_isN hW.1 hW.2.1 a1
            · rw [up_n _ _ q]
              exact hW.2.2.2.2.2 j (by omega)
          · show upd (v 5) t x = upd (u 3) t x
            rw [hR.2.2.2.2.2.2.1]
          · show upd (v 6) t y = upd (u 4) t y
            rw [hR.2.2.2.2.2.2.2.1]
      · rw [if_neg a3, if_neg a3]
        exact ⟨rfl, h0⟩
theorem op_clear {u v : tzS} (h : tzInv u v) : (xClear u).1 = (mClear v).1 ∧ tzInv (xClear u).2 (mClear v).2 := by
  obtain ⟨n, t, hR, hO⟩ := h
  refine ⟨(hR.1.1).trans hR.2.1.symm, 0, 0, ⟨⟨?_, by decide, ?_, by decide, fun k hk => absurd hk (by omega), fun k hk => absurd hk (by omega)⟩, ?_, ?_, hR.2.2.2.1, hR.2.2.2.2.1, hR.2.2.2.2.2.1, hR.2.2.2.2.2.2.1, hR.2.2.2.2.2.2.2.1, hR.2.2.2.2.2.2.2.2.1, hR.2.2.2.2.2.2.2.2.2.1, fun k hk => absurd hk (by omega)⟩, Or.inl rfl⟩ <;> exact nI_0.symm
theorem op_nodes {u v : tzS} (h : tzInv u v) : u 12 0 = v 0 0 := by
  obtain ⟨n, t, hR, hO⟩ := h
  exact (hR.1.1).trans hR.2.1.symm
theorem op_terms {u v : tzS} (h : tzInv u v) : u 13 0 = v 4 0 := by
  obtain ⟨n, t, hR, hO⟩ := h
  exact (hR.1.2.2.1).trans hR.2.2.1.symm
theorem rl_pos {u v : tzS} {n t : Nat} (h : tzRl u v n t) (i : Nat) (x : Int32) : tzRl (tzst u 5 i x) (tzst v 8 i x) n t := by
  refine ⟨h.1, h.2.1, h.2.2.1, h.2.2.2.1, h.2.2.2.2.1, h.2.2.2.2.2.1, h.2.2.2.2.2.2.1, h.2.2.2.2.2.2.2.1, ?_, h.2.2.2.2.2.2.2.2.2⟩
  show upd (v 8) i x = upd (u 5) i x
  rw [h.2.2.2.2.2.2.2.2.1]
theorem rl_mom {u v : tzS} {n t : Nat} (h : tzRl u v n t) (i : Nat) (x : Int32) : tzRl (tzst u 6 i x) (tzst v 9 i x) n t := by
  refine ⟨h.1, h.2.1, h.2.2.1, h.2.2.2.1, h.2.2.2.2.1, h.2.2.2.2.2.1, h.2.2.2.2.2.2.1, h.2.2.2.2.2.2.2.1, h.2.2.2.2.2.2.2.2.1, ?_, h.2.2.2.2.2.2.2.2.2.2⟩
  show upd (v 9) i x = upd (u 6) i x
  rw [h.2.2.2.2.2.2.2.2.2.1]
theorem tzRl.p {u v : tzS} {n t : Nat} (h : tzRl u v n t) : v 8 = u 5 := h.2.2.2.2.2.2.2.2.1
theorem tzRl.m {u v : tzS} {n t : Nat} (h : tzRl u v n t) : v 9 = u 6 := h.2.2.2.2.2.2.2.2.2.1
theorem tzRl.l {u v : tzS} {n t : Nat} (h : tzRl u v n t) : v 2 = u 1 := h.2.2.2.2.1
theorem tzRl.r {u v : tzS} {n t : Nat} (h : tzRl u v n t) : v 3 = u 2 := h.2.2.2.2.2.1
theorem tzRl.tn {u v : tzS} {n t : Nat} (h : tzRl u v n t) : v 5 = u 3 := h.2.2.2.2.2.2.1
theorem tzRl.tw {u v : tzS} {n t : Nat} (h : tzRl u v n t) : v 6 = u 4 := h.2.2.2.2.2.2.2.1
theorem tzRl.k {u v : tzS} {n t : Nat} (h : tzRl u v n t) {k : Nat} (hk : k < n) : v 1 k = tzcv (u 0 k) := h.2.2.2.2.2.2.2.2.2.2 k hk
theorem op_place {u v : tzS} (h : tzInv u v) (ch j x : Int32) : (xPlace u ch j x).1 = (mPlace v ch j x).1 ∧ tzInv (xPlace u ch j x).2 (mPlace v ch j x).2 := by
  by_cases a1 : xIsC ch = 0
  · rw [xPlace, mPlace, if_pos a1, if_neg (fun q => (gC ch).mp q a1)]
    exact ⟨rfl, h⟩
  · rw [xPlace, mPlace, if_neg a1, if_pos ((gC ch).mpr a1)]
    by_cases a2 : xIsP j = 0
    · rw [if_pos a2, if_neg (fun q => (gP j).mp q a2)]
      exact ⟨rfl, h⟩
    · rw [if_neg a2, if_pos ((gP j).mpr a2)]
      obtain ⟨n, t, hR, hO⟩ := h
      exact ⟨rfl, n, t, rl_pos hR _ _, hO⟩
theorem op_push {u v : tzS} (h : tzInv u v) (ch j x : Int32) : (xPush u ch j x).1 = (mPush v ch j x).1 ∧ tzInv (xPush u ch j x).2 (mPush v ch j x).2 := by
  by_cases a1 : xIsC ch = 0
  · rw [xPush, mPush, if_pos a1, if_neg (fun q => (gC ch).mp q a1)]
    exact ⟨rfl, h⟩
  · rw [xPush, mPush, if_neg a1, if_pos ((gC ch).mpr a1)]
    by_cases a2 : xIsP j = 0
    · rw [if_pos a2, if_neg (fun q => (gP j).mp q a2)]
      exact ⟨rfl, h⟩
    · rw [if_neg a2, if_pos ((gP j).mpr a2)]
      obtain ⟨n, t, hR, hO⟩ := h
      exact ⟨rfl, n, t, rl_mom hR _ _, hO⟩
theorem op_shift {u v : tzS} (h : tzInv u v) (x : Int32) : (xShift u x).1 = (mShift v x).1 ∧ tzInv (xShift u x).2 (mShift v x).2 := by
  by_cases a1 : x < 0
  · rw [xShift, mShift, if_pos a1, if_pos a1]
    exact ⟨rfl, h⟩
  · rw [xShift, mShift, if_neg a1, if_neg a1]
    by_cases a2 : x ≤ 20
    · rw [if_pos a2, if_pos a2]
      obtain ⟨n, t, hR, hO⟩ := h
      exact ⟨hR.2.2.2.1.symm, n, t, ⟨hR.1, hR.2.1, hR.2.2.1, rfl, hR.2.2.2.2⟩, hO⟩
    · rw [if_neg a2, if_neg a2]
      exact ⟨rfl, h⟩
theorem op_position {u v : tzS} (h : tzInv u v) (ch j : Int32) : xPos u ch j = mPos v ch j := by
  by_cases a1 : xIsC ch = 0
  · rw [xPos, mPos, if_pos a1, if_neg (fun q => (gC ch).mp q a1)]
  · rw [xPos, mPos, if_neg a1, if_pos ((gC ch).mpr a1)]
    by_cases a2 : xIsP j = 0
    · rw [if_pos a2, if_neg (fun q => (gP j).mp q a2)]
    · rw [if_neg a2, if_pos ((gP j).mpr a2)]
      obtain ⟨n, t, hR, hO⟩ := h
      rw [hR.p]
theorem op_momentum {u v : tzS} (h : tzInv u v) (ch j : Int32) : xMom u ch j = mMom v ch j := by
  by_cases a1 : xIsC ch = 0
  · rw [xMom, mMom, if_pos a1, if_neg (fun q => (gC ch).mp q a1)]
  · rw [xMom, mMom, if_neg a1, if_pos ((gC ch).mpr a1)]
    by_cases a2 : xIsP j = 0
    · rw [if_pos a2, if_neg (fun q => (gP j).mp q a2)]
    · rw [if_neg a2, if_pos ((gP j).mpr a2)]
      obtain ⟨n, t, hR, hO⟩ := h
      rw [hR.m]
theorem it_rel {P : tzS → tzS → Prop} {f g : Nat → tzS → tzS} {u v : tzS} {n : Nat} (h0 : P u v) (hs : ∀ i, i < n → ∀ z y, P z y → P (f i z) (g i y)) : P (tzit f n u) (tzit g n v) := by
  induction n with
  | zero => exact h0
  | succ n ih => exact hs n (by omega) _ _ (ih (fun i hi => hs i (by omega)))
theorem op_turn {u v : tzS} (h : tzInv u v) (ch : Int32) : (xTurn u ch).1 = (mTurn v ch).1 ∧ tzInv (xTurn u ch).2 (mTurn v ch).2 := by
  by_cases a1 : xIsC ch = 0
  · rw [xTurn, mTurn, if_pos a1, if_neg (fun q => (gC ch).mp q a1)]
    exact ⟨rfl, h⟩
  · rw [xTurn, mTurn, if_neg a1, if_pos ((gC ch).mpr a1)]
    obtain ⟨n, t, hR, hO⟩ := h
    refine ⟨rfl, n, t, it_rel (P := fun z y => tzRl z y n t) (f := xTn1 (4 * tzix ch)) (g := mTn1 (4 * tzix ch)) (n := 4) hR (fun i _ z y q => ?_), hO.kp (tzKp.it (S := [6]) (f := xTn1 (4 * tzix ch)) (n := 4) tzKp.rf (fun _ _ => tzKp.rf.st (by decide))) (by decide)⟩
    show tzRl (tzst z 6 _ (-(z 6 _))) (tzst y 9 _ (-(y 9 _))) n t
    rw [q.m]
    exact rl_mom q _ _
theorem op_copy {u v : tzS} (h : tzInv u v) (x y : Int32) : (xCopy u x y).1 = (mCopy v x y).1 ∧ tzInv (xCopy u x y).2 (mCopy v x y).2 := by
  by_cases a1 : xIsC x = 0
  · rw [xCopy, mCopy, if_pos a1, if_neg (fun q => (gC x).mp q a1)]
    exact ⟨rfl, h⟩
  · rw [xCopy, mCopy, if_neg a1, if_pos ((gC x).mpr a1)]
    by_cases a2 : xIsC y = 0
    · rw [if_pos a2, if_neg (fun q => (gC y).mp q a2)]
      exact ⟨rfl, h⟩
    · rw [if_neg a2, if_pos ((gC y).mpr a2)]
      obtain ⟨n, t, hR, hO⟩ := h
      refine ⟨rfl, n, t, it_rel (P := fun z y => tzRl z y n t) (f := xCp1 (4 * tzix x) (4 * tzix y)) (g := mCp1 (4 * tzix x) (4 * tzix y)) (n := 4) hR (fun i _ z y q => ?_), hO.kp (tzKp.it (S := [5, 6]) (f := xCp1 (4 * tzix x) (4 * tzix y)) (n := 4) tzKp.rf (fun _ _ => (tzKp.rf.st (by decide)).st (by decide))) (by decide)⟩
      show tzRl (tzst (tzst z 5 _ (z 5 _)) 6 _ (z 6 _)) (tzst (tzst y 8 _ (y 8 _)) 9 _ (y 9 _)) n t
      rw [q.m, q.p]
      exact rl_mom (rl_pos q _ _) _ _
end
section
set_option maxRecDepth 100000
/-! THE PLAIN LAW, 3: which nodes are needed -/
theorem nok_h2 {k : Nat} {kd x y : Int32} (h : tznok k kd x y) (h0 : ¬ kd = 0) (h1 : ¬ kd = 1) : ¬ xHas kd = 0 := by
  rcases h with ⟨e, q⟩ | e | ⟨e, q⟩
  · exact absurd e h0
  · exact absurd e h1
  · rcases e with e | e | e | e <;> subst e <;> decide
theorem nok_h01 {kd : Int32} (h : ¬ xHas kd = 0) : ¬ kd = 0 ∧ ¬ kd = 1 := by
  refine ⟨fun e => h ?_, fun e => h ?_⟩ <;> rw [e] <;> decide
/-- the needed nodes when the nodes from r on have handed their mark on -/
def tzNP (r n t : Nat) (K L R T N : Nat → Int32) : Prop := ∀ k, k < n → (¬ N k = 0 ↔ ((∃ j, j < t ∧ tzix (T j) = k) ∨ ∃ q, r ≤ q ∧ q < n ∧ ¬ N q = 0 ∧ ¬ xHas (K q) = 0 ∧ (tzix (L q) = k ∨ tzix (R q) = k)))
section ND
variable {n t : Nat} {K L R T N N' : Nat → Int32}
theorem np_0 (h : tzNP 0 n t K L R T N) : tzND n t K L R T N := by
  intro k hk
  rw [h k hk]
  constructor
  · rintro (q | ⟨q, -, h⟩)
    · exact Or.inl q
    · exact Or.inr ⟨q, h⟩
  · rintro (q | ⟨q, h⟩)
    · exact Or.inl q
    · exact Or.inr ⟨q, Nat.zero_le _, h⟩
theorem np_n (h : ∀ k, k < n → (¬ N k = 0 ↔ ∃ j, j < t ∧ tzix (T j) = k)) : tzNP n n t K L R T N := by
  intro k hk
  rw [h k hk]
  constructor
  · exact Or.inl
  · rintro (q | ⟨q, h1, h2, -⟩)
    · exact q
    · omega
theorem np_skip {r : Nat} (h : tzNP (r + 1) n t K L R T N) (hs : N r = 0 ∨ xHas (K r) = 0) : tzNP r n t K L R T N := by
  intro k hk
  rw [h k hk]
  constructor
  · rintro (q | ⟨q, h1, h2⟩)
    · exact Or.inl q
    · exact Or.inr ⟨q, by omega, h2⟩
  · rintro (q | ⟨q, h1, h2, h3, h4, h5⟩)
    · exact Or.inl q
    · by_cases e : q = r
      · subst e
        rcases hs with hs | hs
        · exact absurd hs h3
        · exact absurd hs h4
      · exact Or.inr ⟨q, by omega, h2, h3, h4, h5⟩
theorem up2_ne (N : Nat → Int32) (a b k : Nat) : ¬ upd (upd N a 1) b 1 k = 0 ↔ (¬ N k = 0 ∨ a = k ∨ b = k) := by
  by_cases e : k = b
  · subst e
    rw [up_s]
    exact ⟨fun _ => Or.inr (Or.inr rfl), fun _ => by decide⟩
  · rw [up_n _ _ e]
    by_cases e2 : k = a
    · subst e2
      rw [up_s]
      exact ⟨fun _ => Or.inr (Or.inl rfl), fun _ => by decide⟩
    · rw [up_n _ _ e2]
      constructor
      · exact Or.inl
      · rintro (q | q | q)
        · exact q
        · exact absurd q.symm e2
        · exact absurd q.symm e
theorem np_mark {r : Nat} (hr : r < n) (h : tzNP (r + 1) n t K L R T N) (h1 : ¬ N r = 0) (h2 : ¬ xHas (K r) = 0) (hl : tzix (L r) < r) (hh : tzix (R r) < r) : tzNP r n t K L R T (upd (upd N (tzix (L r)) 1) (tzix (R r)) 1) := by
  have same : ∀ q, r ≤ q → (¬ upd (upd N (tzix (L r)) 1) (tzix (R r)) 1 q = 0 ↔ ¬ N q = 0) := fun q hq => by
    rw [up_n _ _ (by omega), up_n _ _ (by omega)]
  intro k hk
  rw [up2_ne, h k hk]
  constructor
  · rintro ((q | ⟨q, a1, a2, a3, a4⟩) | q | q)
    · exact Or.inl q
    · exact Or.inr ⟨q, by omega, a2, (same q (by omega)).mpr a3, a4⟩
    · exact Or.inr ⟨r, Nat.le_refl _, hr, (same r (Nat.le_refl _)).mpr h1, h2, Or.inl q⟩
    · exact Or.inr ⟨r, Nat.le_refl _, hr, (same r (Nat.le_refl _)).mpr h1, h2, Or.inr q⟩
  · rintro (q | ⟨q, a1, a2, a3, a4, a5⟩)
    · exact Or.inl (Or.inl q)
    · by_cases e : q = r
      · subst e
        exact Or.inr a5
      · exact Or.inl (Or.inr ⟨q, by omega, a2, (same q (by omega)).mp a3, a4, a5⟩)
theorem nd_uniq (hg : ∀ k, k < n → tznok k (K k) (L k) (R k)) (h : tzND n t K L R T N) (h' : tzND n t K L R T N') : ∀ k, k < n → (¬ N k = 0 ↔ ¬ N' k = 0) := by
  have key : ∀ d k, k < n → n - k ≤ d → (¬ N k = 0 ↔ ¬ N' k = 0) := by
    intro d
    induction d with
    | zero =>
      intro k hk hd
      omega
    | succ d ih =>
      intro k hk hd
      have lt : ∀ q, q < n → ¬ xHas (K q) = 0 → (tzix (L q) = k ∨ tzix (R q) = k) → k < q := by
        intro q hq hh e
        have c1 := ((hg q hq).h hh).1.2
        have c2 := ((hg q hq).h hh).2.2
        omega
      rw [h k hk, h' k hk]
      constructor
      · rintro (q | ⟨q, a1, a2, a3, a4⟩)
        · exact Or.inl q
        · have := lt q a1 a3 a4
          exact Or.inr ⟨q, a1, (ih q a1 (by omega)).mp a2, a3, a4⟩
      · rintro (q | ⟨q, a1, a2, a3, a4⟩)
        · exact Or.inl q
        · have := lt q a1 a3 a4
          exact Or.inr ⟨q, a1, (ih q a1 (by omega)).mpr a2, a3, a4⟩
  exact fun k hk => key (n - k) k hk (Nat.le_refl _)
theorem nd_cl (hg : ∀ k, k < n → tznok k (K k) (L k) (R k)) (h : tzND n t K L R T N) {j : Nat} (hj : j < n) (h1 : ¬ N j = 0) (h2 : ¬ xHas (K j) = 0) : ¬ N (tzix (L j)) = 0 ∧ ¬ N (tzix (R j)) = 0 := by
  have c1 := ((hg j hj).h h2).1.2
  have c2 := ((hg j hj).h h2).2.2
  exact ⟨(h _ (by omega)).mpr (Or.inr ⟨j, hj, h1, h2, Or.inl rfl⟩), (h _ (by omega)).mpr (Or.inr ⟨j, hj, h1, h2, Or.inr rfl⟩)⟩
theorem nd_tm (h : tzND n t K L R T N) {j : Nat} (hj : j < t) (hn : tzix (T j) < n) : ¬ N (tzix (T j)) = 0 := (h _ hn).mpr (Or.inl ⟨j, hj, rfl⟩)
end ND
theorem clr_z (z : tzS) : ∀ i j, j < i → (tzit xClr1 i z) 10 j = 0 := by
  intro i
  induction i with
  | zero => intro j hj; omega
  | succ i ih =>
    intro j hj
    rw [tzit_s, xClr1, st_s]
    by_cases e : j = i
    · subst e; exact up_s _ _ _
    · rw [up_n _ _ e]; exact ih j (by omega)
theorem tm_z {T : Nat → Int32} (z : tzS) (hT : z 3 = T) : ∀ i k, (¬ (tzit xTm1 i z) 10 k = 0 ↔ (¬ z 10 k = 0 ∨ ∃ j, j < i ∧ tzix (T j) = k)) := by
  intro i
  induction i with
  | zero =>
    intro k
    constructor
    · exact Or.inl
    · rintro (q | ⟨j, hj, -⟩)
      · exact q
      · omega
  | succ i ih =>
    intro k
    have e3 : (tzit xTm1 i z) 3 = T := (tzKp.it tzKp.rf xTm1_kp 3 (by decide)).trans hT
    rw [tzit_s, xTm1, st_s, e3]
    by_cases e : k = tzix (T i)
    · subst e
      rw [up_s]
      exact ⟨fun _ => Or.inr ⟨i, by omega, rfl⟩, fun _ => by decide⟩
    · rw [up_n _ _ e, ih k]
      constructor
      · rintro (q | ⟨j, hj, q⟩)
        · exact Or.inl q
        · exact Or.inr ⟨j, by omega, q⟩
      · rintro (q | ⟨j, hj, q⟩)
        · exact Or.inl q
        · by_cases e2 : j = i
          · subst e2; exact absurd q.symm e
          · exact Or.inr ⟨j, by omega, q⟩
theorem mk_dn {n t : Nat} {K L R T : Nat → Int32} (hg : ∀ k, k < n → tznok k (K k) (L k) (R k)) : ∀ r, r ≤ n → ∀ z : tzS, z 0 = K → z 1 = L → z 2 = R → tzNP r n t K L R T (z 10) → tzND n t K L R T ((tzdn xMk1 r z) 10) := by
  intro r
  induction r with
  | zero =>
    intro _ z _ _ _ h
    exact np_0 h
  | succ r ih =>
    intro hr z h0 h1 h2 h
    have kp := xMk1_kp r z
    refine ih (by omega) (xMk1 r z) ((kp 0 (by decide)).trans h0) ((kp 1 (by decide)).trans h1) ((kp 2 (by decide)).trans h2) ?_
    by_cases c1 : z 10 r = 0
    · rw [xMk1, if_pos c1]
      exact np_skip h (Or.inl c1)
    · by_cases c2 : xHas (z 0 r) = 0
      · rw [xMk1, if_neg c1, if_pos c2]
        exact np_skip h (Or.inr (by rw [← h0]; exact c2))
      · rw [xMk1, if_neg c1, if_neg c2]
        rw [h0] at c2
        rw [st_s, st_s, h1, h2]
        exact np_mark (by omega) h c1 c2 ((hg r (by omega)).h c2).1.2 ((hg r (by omega)).h c2).2.2
theorem mark_nd {u : tzS} {n t : Nat} (hW : tzWF u n t) (hO : tzOk u n t) : tzND n t (u 0) (u 1) (u 2) (u 3) ((xMark u) 10) := by
  by_cases c : u 15 0 = 0
  · rw [xMark, if_pos c, hW.n, hW.t]
    have kp := xMkB_kp u t
    refine mk_dn hW.2.2.2.2.1 n (Nat.le_refl _) _ (kp 0 (by decide)) (kp 1 (by decide)) (kp 2 (by decide)) (np_n (fun k hk => ?_))
    have hz := clr_z (tzpt u 15 1) 24 k (by have := hW.2.1; omega)
    rw [tm_z _ ((xMkA_kp u 24) 3 (by decide)) t k]
    exact ⟨fun q => q.elim (fun q => absurd hz q) id, Or.inr⟩
  · rw [xMark, if_neg c]
    exact hO.resolve_left c
theorem us0_z (z : tzS) : ∀ i j, j < i → (tzit mUs0 i z) 13 j = 0 := by
  intro i
  induction i with
  | zero => intro j hj; omega
  | succ i ih =>
    intro j hj
    rw [tzit_s, mUs0, st_s]
    by_cases e : j = i
    · subst e; exact up_s _ _ _
    · rw [up_n _ _ e]; exact ih j (by omega)
theorem us1_z {T : Nat → Int32} (z : tzS) (hT : z 5 = T) : ∀ i k, (¬ (tzit mUs1 i z) 13 k = 0 ↔ (¬ z 13 k = 0 ∨ ∃ j, j < i ∧ tzix (T j) = k)) := by
  intro i
  induction i with
  | zero =>
    intro k
    constructor
    · exact Or.inl
    · rintro (q | ⟨j, hj, -⟩)
      · exact q
      · omega
  | succ i ih =>
    intro k
    have e3 : (tzit mUs1 i z) 5 = T := (tzKp.it (S := [13]) tzKp.rf (fun _ _ => tzKp.rf.st (by decide)) 5 (by decide)).trans hT
    rw [tzit_s, mUs1, st_s, e3]
    by_cases e : k = tzix (T i)
    · subst e
      rw [up_s]
      exact ⟨fun _ => Or.inr ⟨i, by omega, rfl⟩, fun _ => by decide⟩
    · rw [up_n _ _ e, ih k]
      constructor
      · rintro (q | ⟨j, hj, q⟩)
        · exact Or.inl q
        · exact Or.inr ⟨j, by omega, q⟩
      · rintro (q | ⟨j, hj, q⟩)
        · exact Or.inl q
        · by_cases e2 : j = i
          · subst e2; exact absurd q.symm e
          · exact Or.inr ⟨j, by omega, q⟩
theorem us_dn {n t : Nat} {K L R T : Nat → Int32} (hg : ∀ k, k < n → tznok k (K k) (L k) (R k)) : ∀ r, r ≤ n → ∀ z : tzS, (∀ k, k < n → z 1 k = tzcv (K k)) → z 2 = L → z 3 = R → tzNP r n t K L R T (z 13) → tzND n t K L R T ((tzdn mUs2 r z) 13) := by
  intro r
  induction r with
  | zero =>
    intro _ z _ _ _ h
    exact np_0 h
  | succ r ih =>
    intro hr z h0 h1 h2 h
    have kp := mUs2_kp r z
    refine ih (by omega) (mUs2 r z) (fun k hk => by rw [kp 1 (by decide)]; exact h0 k hk) ((kp 2 (by decide)).trans h1) ((kp 3 (by decide)).trans h2) ?_
    have hh := nok_has (hg r (by omega))
    by_cases c1 : z 13 r = 0
    · rw [mUs2, if_pos c1]
      exact np_skip h (Or.inl c1)
    · by_cases c2 : 4 ≤ z 1 r
      · rw [mUs2, if_neg c1, if_pos c2]
        rw [h0 r (by omega)] at c2
        exact np_skip h (Or.inr (hh.mp c2))
      · rw [mUs2, if_neg c1, if_neg c2]
        rw [h0 r (by omega)] at c2
        have c3 : ¬ xHas (K r) = 0 := fun q => c2 (hh.mpr q)
        rw [st_s, st_s, h1, h2]
        exact np_mark (by omega) h c1 c3 ((hg r (by omega)).h c3).1.2 ((hg r (by omega)).h c3).2.2
theorem used_nd {u v : tzS} {n t : Nat} (hR : tzRl u v n t) : tzND n t (u 0) (u 1) (u 2) (u 3) ((tzdn mUs2 n (mLvS v)) 13) := by
  have hW := hR.1
  rw [mLvS, hR.wm.t]
  have kp := mLvB_kp v t
  refine us_dn hW.2.2.2.2.1 n (Nat.le_refl _) _ (fun k hk => by rw [kp 1 (by decide)]; exact hR.k hk) ((kp 2 (by decide)).trans hR.l) ((kp 3 (by decide)).trans hR.r) (np_n (fun k hk => ?_))
  have hz := us0_z v 24 k (by have := hW.2.1; omega)
  rw [us1_z _ (((mLvA_kp v 24) 5 (by decide)).trans hR.tn) t k]
  exact ⟨fun q => q.elim (fun q => absurd hz q) id, Or.inr⟩
/-- what the nodes below r make of the marks leaves the places from r on -/
theorem us_keep {n : Nat} {K L R : Nat → Int32} (hg : ∀ k, k < n → tznok k (K k) (L k) (R k)) : ∀ r, r ≤ n → ∀ z : tzS, (∀ k, k < n → z 1 k = tzcv (K k)) → z 2 = L → z 3 = R → ∀ j, r ≤ j → (tzdn mUs2 r z) 13 j = z 13 j := by
  intro r
  induction r with
  | zero => intro _ z _ _ _ j _; rfl
  | succ r ih =>
    intro hr z h0 h1 h2 j hj
    have kp := mUs2_kp r z
    show (tzdn mUs2 r (mUs2 r z)) 13 j = z 13 j
    rw [ih (by omega) (mUs2 r z) (fun k hk => by rw [kp 1 (by decide)]; exact h0 k hk) ((kp 2 (by decide)).trans h1) ((kp 3 (by decide)).trans h2) j (by omega)]
    have hh := nok_has (hg r (by omega))
    by_cases c1 : z 13 r = 0
    · rw [mUs2, if_pos c1]
    · by_cases c2 : 4 ≤ z 1 r
      · rw [mUs2, if_neg c1, if_pos c2]
      · rw [mUs2, if_neg c1, if_neg c2]
        rw [h0 r (by omega)] at c2
        have c3 : ¬ xHas (K r) = 0 := fun q => c2 (hh.mpr q)
        have l1 := ((hg r (by omega)).h c3).1.2
        have l2 := ((hg r (by omega)).h c3).2.2
        rw [st_s, st_s, h1, h2, up_n _ _ (by omega), up_n _ _ (by omega)]
theorem cnt_sm {n : Nat} {K L R : Nat → Int32} (hg : ∀ k, k < n → tznok k (K k) (L k) (R k)) : ∀ r, r ≤ n → ∀ (z : tzS) (x : Int32), (∀ k, k < n → z 1 k = tzcv (K k)) → z 2 = L → z 3 = R → mCnt r z x = x + tzsm (fun k => if (tzdn mUs2 r z) 13 k = 0 then 0 else 1) r := by
  intro r
  induction r with
  | zero =>
    intro _ z x _ _ _
    show x = x + 0
    grind
  | succ r ih =>
    intro hr z x h0 h1 h2
    have kp := mUs2_kp r z
    have a0 : ∀ k, k < n → (mUs2 r z) 1 k = tzcv (K k) := fun k hk => by rw [kp 1 (by decide)]; exact h0 k hk
    have a1 := (kp 2 (by decide)).trans h1
    have a2 := (kp 3 (by decide)).trans h2
    have e1 : (tzdn mUs2 (r + 1) z) 13 r = z 13 r := by
      have k1 : (tzdn mUs2 r (mUs2 r z)) 13 r = (mUs2 r z) 13 r := us_keep hg r (by omega) (mUs2 r z) a0 a1 a2 r (Nat.le_refl _)
      refine k1.trans ?_
      have hh := nok_has (hg r (by omega))
      by_cases c1 : z 13 r = 0
      · rw [mUs2, if_pos c1]
      · by_cases c2 : 4 ≤ z 1 r
        · rw [mUs2, if_neg c1, if_pos c2]
        · rw [mUs2, if_neg c1, if_neg c2]
          rw [h0 r (by omega)] at c2
          have c3 : ¬ xHas (K r) = 0 := fun q => c2 (hh.mpr q)
          have l1 := ((hg r (by omega)).h c3).1.2
          have l2 := ((hg r (by omega)).h c3).2.2
          rw [st_s, st_s, h1, h2, up_n _ _ (by omega), up_n _ _ (by omega)]
    show mCnt r (mUs2 r z) (mCn1 r z x) = x + (tzsm (fun k => if (tzdn mUs2 r (mUs2 r z)) 13 k = 0 then 0 else 1) r + (if (tzdn mUs2 (r + 1) z) 13 r = 0 then 0 else 1))
    rw [ih (by omega) (mUs2 r z) (mCn1 r z x) a0 a1 a2, e1, mCn1]
    by_cases c : z 13 r = 0
    · rw [if_pos c, if_pos c]; grind
    · rw [if_neg c, if_neg c]; grind
theorem op_live {u v : tzS} (h : tzInv u v) : (xLive u).1 = (mLive v).1 ∧ tzInv (xLive u).2 (mLive v).2 := by
  obtain ⟨n, t, hR, hO⟩ := h
  have hW := hR.1
  have hM := mark_nd hW hO
  have hU := used_nd hR
  have kp := mLvB_kp v t
  refine ⟨?_, n, t, ?_, ?_⟩
  · rw [xLive, mLive, hW.n, hR.wm.n]
    have e : mLvS v = tzit mUs1 t (tzit mUs0 24 v) := by rw [mLvS, hR.wm.t]
    have hc := cnt_sm hW.2.2.2.2.1 n (Nat.le_refl _) (mLvS v) 0 (fun k hk => by rw [e, kp 1 (by decide)]; exact hR.k hk) (by rw [e]; exact (kp 2 (by decide)).trans hR.l) (by rw [e]; exact (kp 3 (by decide)).trans hR.r)
    show tzsm _ n = mCnt n (mLvS v) 0
    rw [hc, show ∀ x : Int32, 0 + x = x from fun x => by grind]
    refine sm_congr (fun k hk => ?_)
    have q := nd_uniq hW.2.2.2.2.1 hM hU k hk
    show (if (xMark u) 10 k = 0 then (0 : Int32) else 1) = if (tzdn mUs2 n (mLvS v)) 13 k = 0 then 0 else 1
    by_cases c : (xMark u) 10 k = 0
    · rw [if_pos c, if_pos (Classical.not_not.mp (fun c2 => q.mpr c2 c))]
    · rw [if_neg c, if_neg (q.mp c)]
  · refine hR.kp (xMark_kp u) (S' := [13]) ?_ (by decide) (by decide)
    show tzKp [13] v (tzdn mUs2 (tzix (v 0 0)) (mLvS v))
    refine tzKp.dn mUs2_kp _ _ ?_
    rw [mLvS, hR.wm.t]
    exact kp
  · refine Or.inr ?_
    have kp := xMark_kp u
    show tzND n t ((xMark u) 0) ((xMark u) 1) ((xMark u) 2) ((xMark u) 3) ((xMark u) 10)
    rw [kp 0 (by decide), kp 1 (by decide), kp 2 (by decide), kp 3 (by decide)]
    exact hM
end
section
set_option maxRecDepth 100000
/-! THE PLAIN LAW, 4: values and slopes of the nodes -/
def tzrt (K L R V D : Nat → Int32) (y : Int32) (k : Nat) : Int32 := if K k = 0 then (if L k = y then 1 else 0) else if K k = 1 then 0 else if K k = 2 then D (tzix (L k)) + D (tzix (R k)) else if K k = 3 then D (tzix (L k)) - D (tzix (R k)) else D (tzix (L k)) * V (tzix (R k)) + V (tzix (L k)) * D (tzix (R k))
def tzVS (N : Nat → Prop) (n : Nat) (K L R P : Nat → Int32) (b : Nat) (V : Nat → Int32) : Prop := ∀ j, j < n → N j → V j = tzcmp K L R P V b j
def tzDS (n : Nat) (K L R V : Nat → Int32) (y : Int32) (D : Nat → Int32) : Prop := ∀ j, j < n → D j = tzrt K L R V D y j
def tzCS (N : Nat → Prop) (n : Nat) (K L R M V : Nat → Int32) (b : Nat) (C : Nat → Int32) : Prop := ∀ j, j < n → N j → C j = tzchg K L R M V C b j
section VAL4
variable {n b : Nat} {K L R P M V V' D D' C C' : Nat → Int32} {N : Nat → Prop} {y : Int32}
theorem cmp_cg {j : Nat} (h : ¬ K j = 0 → ¬ K j = 1 → V (tzix (L j)) = V' (tzix (L j)) ∧ V (tzix (R j)) = V' (tzix (R j))) : tzcmp K L R P V b j = tzcmp K L R P V' b j := by
  unfold tzcmp
  by_cases h0 : K j = 0
  · rw [if_pos h0, if_pos h0]
  · rw [if_neg h0, if_neg h0]
    by_cases h1 : K j = 1
    · rw [if_pos h1, if_pos h1]
    · rw [if_neg h1, if_neg h1, (h h0 h1).1, (h h0 h1).2]
theorem rt_cg {j : Nat} (h : ¬ K j = 0 → ¬ K j = 1 → (V (tzix (L j)) = V' (tzix (L j)) ∧ V (tzix (R j)) = V' (tzix (R j))) ∧ D (tzix (L j)) = D' (tzix (L j)) ∧ D (tzix (R j)) = D' (tzix (R j))) : tzrt K L R V D y j = tzrt K L R V' D' y j := by
  unfold tzrt
  by_cases h0 : K j = 0
  · rw [if_pos h0, if_pos h0]
  · rw [if_neg h0, if_neg h0]
    by_cases h1 : K j = 1
    · rw [if_pos h1, if_pos h1]
    · rw [if_neg h1, if_neg h1, (h h0 h1).1.1, (h h0 h1).1.2, (h h0 h1).2.1, (h h0 h1).2.2]
theorem chg_cg {j : Nat} (h : ¬ K j = 0 → ¬ K j = 1 → (V (tzix (L j)) = V' (tzix (L j)) ∧ V (tzix (R j)) = V' (tzix (R j))) ∧ C (tzix (L j)) = C' (tzix (L j)) ∧ C (tzix (R j)) = C' (tzix (R j))) : tzchg K L R M V C b j = tzchg K L R M V' C' b j := by
  unfold tzchg
  by_cases h0 : K j = 0
  · rw [if_pos h0, if_pos h0]
  · rw [if_neg h0, if_neg h0]
    by_cases h1 : K j = 1
    · rw [if_pos h1, if_pos h1]
    · rw [if_neg h1, if_neg h1, (h h0 h1).1.1, (h h0 h1).1.2, (h h0 h1).2.1, (h h0 h1).2.2]
variable (hg : ∀ k, k < n → tznok k (K k) (L k) (R k))
theorem vs_step {i : Nat} {x : Int32} (hg : ∀ k, k < n → tznok k (K k) (L k) (R k)) (hi : i < n) (h : ∀ j, j < i → N j → V j = tzcmp K L R P V b j) (hx : x = tzcmp K L R P V b i) : ∀ j, j < i + 1 → N j → upd V i x j = tzcmp K L R P (upd V i x) b j := by
  intro j hj hN
  have cg : tzcmp K L R P (upd V i x) b j = tzcmp K L R P V b j := cmp_cg (fun h0 h1 => by
    have c := (hg j (by omega)).c h0 h1
    have c1 := c.1.2
    have c2 := c.2.2
    exact ⟨up_n _ _ (by omega), up_n _ _ (by omega)⟩)
  rw [cg]
  by_cases e : j = i
  · subst e; rw [up_s, hx]
  · rw [up_n _ _ e]; exact h j (by omega) hN
theorem ds_step {i : Nat} {x d : Int32} (hg : ∀ k, k < n → tznok k (K k) (L k) (R k)) (hi : i < n) (h : ∀ j, j < i → D j = tzrt K L R V D y j) (hx : d = tzrt K L R (upd V i x) D y i) : ∀ j, j < i + 1 → upd D i d j = tzrt K L R (upd V i x) (upd D i d) y j := by
  intro j hj
  by_cases e : j = i
  · subst e
    rw [up_s, hx]
    refine rt_cg (fun h0 h1 => ?_)
    have c := (hg j (by omega)).c h0 h1
    have c1 := c.1.2
    have c2 := c.2.2
    exact ⟨⟨rfl, rfl⟩, (up_n _ _ (by omega)).symm, (up_n _ _ (by omega)).symm⟩
  · rw [up_n _ _ e, h j (by omega)]
    refine rt_cg (fun h0 h1 => ?_)
    have c := (hg j (by omega)).c h0 h1
    have c1 := c.1.2
    have c2 := c.2.2
    exact ⟨⟨(up_n _ _ (by omega)).symm, (up_n _ _ (by omega)).symm⟩, (up_n _ _ (by omega)).symm, (up_n _ _ (by omega)).symm⟩
theorem cs_step {i : Nat} {x : Int32} (hg : ∀ k, k < n → tznok k (K k) (L k) (R k)) (hi : i < n) (h : ∀ j, j < i → N j → C j = tzchg K L R M V C b j) (hx : x = tzchg K L R M V C b i) : ∀ j, j < i + 1 → N j → upd C i x j = tzchg K L R M V (upd C i x) b j := by
  intro j hj hN
  have cg : tzchg K L R M V (upd C i x) b j = tzchg K L R M V C b j := chg_cg (fun h0 h1 => by
    have c := (hg j (by omega)).c h0 h1
    have c1 := c.1.2
    have c2 := c.2.2
    exact ⟨⟨rfl, rfl⟩, up_n _ _ (by omega), up_n _ _ (by omega)⟩)
  rw [cg]
  by_cases e : j = i
  · subst e; rw [up_s, hx]
  · rw [up_n _ _ e]; exact h j (by omega) hN
theorem vs_uniq (hg : ∀ k, k < n → tznok k (K k) (L k) (R k)) (hcl : ∀ j, j < n → N j → ¬ xHas (K j) = 0 → N (tzix (L j)) ∧ N (tzix (R j))) (h : tzVS N n K L R P b V) (h' : tzVS N n K L R P b V') : ∀ j, j < n → N j → V j = V' j := by
  intro j
  induction j using Nat.strongRecOn with
  | ind j ih =>
    intro hj hN
    rw [h j hj hN, h' j hj hN]
    refine cmp_cg (fun h0 h1 => ?_)
    have hh := nok_h2 (hg j hj) h0 h1
    have c := (hg j hj).c h0 h1
    have c1 := c.1.2
    have c2 := c.2.2
    have q := hcl j hj hN hh
    exact ⟨ih _ c1 (by omega) q.1, ih _ c2 (by omega) q.2⟩
end VAL4
/-! what the recording leaves -/
theorem xEv1_k7 (b k : Nat) (z : tzS) : tzKp [7] z (xEv1 b k z) := .ite .rf (tzKp.rf.st (by decide))
theorem ev_it {n b : Nat} {K L R P N : Nat → Int32} (hg : ∀ k, k < n → tznok k (K k) (L k) (R k)) {z : tzS} (e0 : z 0 = K) (e1 : z 1 = L) (e2 : z 2 = R) (e5 : z 5 = P) (e10 : z 10 = N) : ∀ i, i ≤ n → ∀ j, j < i → ¬ N j = 0 → (tzit (xEv1 b) i z) 7 j = tzcmp K L R P ((tzit (xEv1 b) i z) 7) b j := by
  intro i
  induction i with
  | zero => intro _ j hj; omega
  | succ i ih =>
    intro hi
    have kp : tzKp [7] z (tzit (xEv1 b) i z) := tzKp.rf.it (xEv1_k7 b)
    have ih := ih (by omega)
    rw [tzit_s]
    by_cases c : (tzit (xEv1 b) i z) 10 i = 0
    · rw [xEv1, if_pos c]
      intro j hj hN
      by_cases e : j = i
      · subst e
        rw [kp 10 (by decide), e10] at c
        exact absurd c hN
      · exact ih j (by omega) hN
    · rw [xEv1, if_neg c, st_s]
      refine vs_step (N := fun j => ¬ N j = 0) hg (by omega) ih ?_
      rw [xComp, kp 0 (by decide), kp 1 (by decide), kp 2 (by decide), kp 5 (by decide), e0, e1, e2, e5]
theorem val_it {n b : Nat} {K L R P : Nat → Int32} (hg : ∀ k, k < n → tznok k (K k) (L k) (R k)) {z : tzS} (e0 : z 0 = K) (e1 : z 1 = L) (e2 : z 2 = R) (e5 : z 5 = P) : ∀ i, i ≤ n → ∀ j, j < i → True → (tzit (xVal1 b) i z) 7 j = tzcmp K L R P ((tzit (xVal1 b) i z) 7) b j := by
  intro i
  induction i with
  | zero => intro _ j hj; omega
  | succ i ih =>
    intro hi
    have kp : tzKp [7] z (tzit (xVal1 b) i z) := tzKp.rf.it (xVal1_kp b)
    have ih := ih (by omega)
    rw [tzit_s, xVal1, st_s]
    refine vs_step (N := fun _ => True) hg (by omega) ih ?_
    rw [xComp, kp 0 (by decide), kp 1 (by decide), kp 2 (by decide), kp 5 (by decide), e0, e1, e2, e5]
theorem wk1_eq {n b : Nat} {K L R P : Nat → Int32} {y : Int32} {i : Nat} (h : tznok i (K i) (L i) (R i)) {z : tzS} (e1 : z 1 i = tzcv (K i)) (e2 : z 2 = L) (e3 : z 3 = R) (e8 : z 8 = P) : mWk1 b y i z = tzst (tzst z 10 i (tzcmp K L R P (z 10) b i)) 11 i (tzrt K L R (upd (z 10) i (tzcmp K L R P (z 10) b i)) (z 11) y i) := by
  have hk : K i = 0 ∨ K i = 1 ∨ K i = 2 ∨ K i = 3 ∨ (K i = 4 ∨ K i = 5) := by
    rcases h with ⟨e, -⟩ | e | ⟨e, -⟩
    · exact Or.inl e
    · exact Or.inr (Or.inl e)
    · exact Or.inr (Or.inr e)
  subst e2; subst e3; subst e8
  rcases hk with e | e | e | e | e
  · have c : z 1 i = 4 := by rw [e1, e]; decide
    rw [mWk1, if_pos c, tzcmp, tzrt, if_pos e, if_pos e]
    by_cases q : z 2 i = y
    · rw [if_pos q, if_pos q]
    · rw [if_neg q, if_neg q]
  · have c : ¬ z 1 i = 4 := by rw [e1, e]; decide
    have c2 : z 1 i = 5 := by rw [e1, e]; decide
    have d0 : ¬ K i = 0 := by rw [e]; decide
    rw [mWk1, if_neg c, if_pos c2, tzcmp, tzrt, if_neg d0, if_neg d0, if_pos e, if_pos e]
  · have c : ¬ z 1 i = 4 := by rw [e1, e]; decide
    have c2 : ¬ z 1 i = 5 := by rw [e1, e]; decide
    have c3 : z 1 i = 0 := by rw [e1, e]; decide
    have d0 : ¬ K i = 0 := by rw [e]; decide
    have d1 : ¬ K i = 1 := by rw [e]; decide
    rw [mWk1, if_neg c, if_neg c2, if_pos c3, tzcmp, tzrt, if_neg d0, if_neg d0, if_neg d1, if_neg d1, if_pos e, if_pos e]
  · have c : ¬ z 1 i = 4 := by rw [e1, e]; decide
    have c2 : ¬ z 1 i = 5 := by rw [e1, e]; decide
    have c3 : ¬ z 1 i = 0 := by rw [e1, e]; decide
    have c4 : z 1 i = 1 := by rw [e1, e]; decide
    have d0 : ¬ K i = 0 := by rw [e]; decide
    have d1 : ¬ K i = 1 := by rw [e]; decide
    have d2 : ¬ K i = 2 := by rw [e]; decide
    rw [mWk1, if_neg c, if_neg c2, if_neg c3, if_pos c4, tzcmp, tzrt, if_neg d0, if_neg d0, if_neg d1, if_neg d1, if_neg d2, if_neg d2, if_pos e, if_pos e]
  · have c : ¬ z 1 i = 4 := by rcases e with e | e <;> rw [e1, e] <;> decide
    have c2 : ¬ z 1 i = 5 := by rcases e with e | e <;> rw [e1, e] <;> decide
    have c3 : ¬ z 1 i = 0 := by rcases e with e | e <;> rw [e1, e] <;> decide
    have c4 : ¬ z 1 i = 1 := by rcases e with e | e <;> rw [e1, e] <;> decide
    have d0 : ¬ K i = 0 := by rcases e with e | e <;> rw [e] <;> decide
    have d1 : ¬ K i = 1 := by rcases e with e | e <;> rw [e] <;> decide
    have d2 : ¬ K i = 2 := by rcases e with e | e <;> rw [e] <;> decide
    have d3 : ¬ K i = 3 := by rcases e with e | e <;> rw [e] <;> decide
    rw [mWk1, if_neg c, if_neg c2, if_neg c3, if_neg c4, tzcmp, tzrt, if_neg d0, if_neg d0, if_neg d1, if_neg d1, if_neg d2, if_neg d2, if_neg d3, if_neg d3, st_s]
theorem wk_it {n b : Nat} {K L R P : Nat → Int32} {y : Int32} (hg : ∀ k, k < n → tznok k (K k) (L k) (R k)) {z : tzS} (e1 : ∀ k, k < n → z 1 k = tzcv (K k)) (e2 : z 2 = L) (e3 : z 3 = R) (e8 : z 8 = P) : ∀ i, i ≤ n →
    (∀ j, j < i → True → (tzit (mWk1 b y) i z) 10 j = tzcmp K L R P ((tzit (mWk1 b y) i z) 10) b j) ∧ (∀ j, j < i → (tzit (mWk1 b y) i z) 11 j = tzrt K L R ((tzit (mWk1 b y) i z) 10) ((tzit (mWk1 b y) i z) 11) y j) := by
  intro i
  induction i with
  | zero => intro _; exact ⟨fun j hj => by omega, fun j hj => by omega⟩
  | succ i ih =>
    intro hi
    have kp : tzKp [10, 11] z (tzit (mWk1 b y) i z) := tzKp.rf.it (mWk1_kp b y)
    obtain ⟨ih1, ih2⟩ := ih (by omega)
    rw [tzit_s, wk1_eq (n := n) (hg i (by omega)) (by rw [kp 1 (by decide)]; exact e1 i (by omega)) ((kp 2 (by decide)).trans e2) ((kp 3 (by decide)).trans e3) ((kp 8 (by decide)).trans e8)]
    generalize tzit (mWk1 b y) i z = w at ih1 ih2 ⊢
    rw [st_s, st_n (j := 10) _ _ _ (by decide), st_s, st_n (j := 11) _ _ _ (by decide)]
    exact ⟨vs_step (N := fun _ => True) hg (by omega) ih1 rfl, ds_step hg (by omega) ih2 rfl⟩
/-- what the reference's work leaves -/
theorem mwk {u v : tzS} {n t : Nat} (hR : tzRl u v n t) (b : Nat) (y : Int32) : tzVS (fun _ => True) n (u 0) (u 1) (u 2) (u 5) b ((mWork v b y) 10) ∧ tzDS n (u 0) (u 1) (u 2) ((mWork v b y) 10) y ((mWork v b y) 11) := by
  rw [mWork, hR.wm.n]
  exact wk_it hR.1.2.2.2.2.1 (fun k hk => hR.k hk) hR.l hR.r hR.p n (Nat.le_refl _)
/-- what TapeSampler's recording leaves -/
theorem evs {u : tzS} {n t : Nat} (hW : tzWF u n t) (hO : tzOk u n t) (b : Nat) : tzND n t (u 0) (u 1) (u 2) (u 3) ((xEvS u b) 10) ∧ tzVS (fun j => ¬ (xEvS u b) 10 j = 0) n (u 0) (u 1) (u 2) (u 5) b ((xEvS u b) 7) := by
  have hM := mark_nd hW hO
  have km := xMark_kp u
  have kp : tzKp [7] (xMark u) (tzit (xEv1 b) n (xMark u)) := tzKp.rf.it (xEv1_k7 b)
  rw [xEvS, hW.n, kp 10 (by decide)]
  exact ⟨hM, ev_it hW.2.2.2.2.1 (km 0 (by decide)) (km 1 (by decide)) (km 2 (by decide)) (km 5 (by decide)) rfl n (Nat.le_refl _)⟩
theorem nd_ok {u z : tzS} {n t : Nat} (h : tzND n t (u 0) (u 1) (u 2) (u 3) (z 10)) (h0 : z 0 = u 0) (h1 : z 1 = u 1) (h2 : z 2 = u 2) (h3 : z 3 = u 3) : tzOk z n t := by
  refine Or.inr ?_
  rw [h0, h1, h2, h3]
  exact h
theorem evs_ok {u : tzS} {n t : Nat} (hW : tzWF u n t) (hO : tzOk u n t) (b : Nat) : tzOk (xEvS u b) n t := by
  have kp := xEvS_kp u b
  exact nd_ok (evs hW hO b).1 (kp 0 (by decide)) (kp 1 (by decide)) (kp 2 (by decide)) (kp 3 (by decide))
/-- on the needed nodes the two hold the same values -/
theorem v_eq {u : tzS} {n t : Nat} (hW : tzWF u n t) (hO : tzOk u n t) {b : Nat} {V : Nat → Int32} (hV : tzVS (fun _ => True) n (u 0) (u 1) (u 2) (u 5) b V) : ∀ j, j < n → ¬ (xEvS u b) 10 j = 0 → (xEvS u b) 7 j = V j := by
  obtain ⟨h1, h2⟩ := evs hW hO b
  exact vs_uniq hW.2.2.2.2.1 (fun j hj hN hh => nd_cl hW.2.2.2.2.1 h1 hj hN hh) h2 (fun j hj _ => hV j hj trivial)
theorem tn_lt {u : tzS} {n t : Nat} (hW : tzWF u n t) {j : Nat} (hj : j < t) : tzix (u 3 j) < n := (hW.2.2.2.2.2 j hj).2
theorem ev_eq {u v : tzS} {n t : Nat} (hR : tzRl u v n t) (hO : tzOk u n t) (b : Nat) (y : Int32) : xEvR (xEvS u b) = mTot (mWork v b y) := by
  have hW := hR.1
  have kp := xEvS_kp u b
  have km := mWork_kp v b y
  have hv := v_eq hW hO (mwk hR b y).1
  have hN := (evs hW hO b).1
  rw [xEvR, mTot, kp 4 (by decide), kp 3 (by decide), kp 13 (by decide), km 6 (by decide), km 5 (by decide), km 4 (by decide), hW.t, hR.wm.t, hR.tw, hR.tn]
  refine sm_congr (fun j hj => ?_)
  show u 4 j * (xEvS u b) 7 (tzix (u 3 j)) = u 4 j * (mWork v b y) 10 (tzix (u 3 j))
  rw [hv _ (tn_lt hW hj) (nd_tm hN hj (tn_lt hW hj))]
theorem inv_ev {u v : tzS} {n t : Nat} (hR : tzRl u v n t) (hO : tzOk u n t) (b : Nat) (y : Int32) : tzInv (xEvS u b) (mWork v b y) :=
  ⟨n, t, hR.kp (xEvS_kp u b) (mWork_kp v b y) (by decide) (by decide), evs_ok hR.1 hO b⟩
theorem op_target {u v : tzS} (h : tzInv u v) (ch : Int32) : (xTgt u ch).1 = (mTgt v ch).1 ∧ tzInv (xTgt u ch).2 (mTgt v ch).2 := by
  by_cases a1 : xIsC ch = 0
  · rw [xTgt, mTgt, if_pos a1, if_neg (fun q => (gC ch).mp q a1)]
    exact ⟨rfl, h⟩
  · rw [xTgt, mTgt, if_neg a1, if_pos ((gC ch).mpr a1)]
    obtain ⟨n, t, hR, hO⟩ := h
    exact ⟨ev_eq hR hO _ _, inv_ev hR hO _ _⟩
theorem op_valueOf {u v : tzS} (h : tzInv u v) (ch k : Int32) : (xVal u ch k).1 = (mVal v ch k).1 ∧ tzInv (xVal u ch k).2 (mVal v ch k).2 := by
  have h0 := h
  obtain ⟨n, t, hR, hO⟩ := h
  have hW := hR.1
  by_cases a1 : xIsC ch = 0
  · rw [xVal, mVal, if_pos a1, if_neg (fun q => (gC ch).mp q a1)]
    exact ⟨rfl, h0⟩
  · rw [xVal, mVal, if_neg a1, if_pos ((gC ch).mpr a1)]
    by_cases a2 : xIsN u k = 0
    · rw [if_pos a2, if_neg (fun q => (gN k hW.1 hR.2.1 hW.2.1).mp q a2)]
      exact ⟨rfl, h0⟩
    · rw [if_neg a2, if_pos ((gN k hW.1 hR.2.1 hW.2.1).mpr a2)]
      have hk := (tz_isN hW.1 hW.2.1 a2).2
      refine ⟨?_, n, t, hR.kp (xValI_kp u _ _) (mWork_kp v _ _) (by decide) (by decide), hO.kp (xValI_kp u _ _) (by decide)⟩
      have h1 := val_it (b := 4 * tzix ch) hW.2.2.2.2.1 (z := u) rfl rfl rfl rfl (tzix k + 1) (by omega)
      have h2 := (mwk hR (4 * tzix ch) 0).1
      exact vs_uniq (n := tzix k + 1) (N := fun _ => True) (fun q hq => hW.2.2.2.2.1 q (by omega)) (fun _ _ _ _ => ⟨trivial, trivial⟩) h1 (fun j hj q => h2 j (by omega) q) (tzix k) (by omega) trivial
theorem up_back (f : Nat → Int32) (i : Nat) (x : Int32) : upd (upd f i x) i (f i) = f := by
  funext j
  by_cases e : j = i
  · subst e; rw [up_s]
  · rw [up_n _ _ e, up_n _ _ e]
theorem op_targetAt {u v : tzS} (h : tzInv u v) (ch j x : Int32) : (xTat u ch j x).1 = (mTat v ch j x).1 ∧ tzInv (xTat u ch j x).2 (mTat v ch j x).2 := by
  by_cases a1 : xIsC ch = 0
  · rw [xTat, mTat, if_pos a1, if_neg (fun q => (gC ch).mp q a1)]
    exact ⟨rfl, h⟩
  · rw [xTat, mTat, if_neg a1, if_pos ((gC ch).mpr a1)]
    by_cases a2 : xIsP j = 0
    · rw [if_pos a2, if_neg (fun q => (gP j).mp q a2)]
      exact ⟨rfl, h⟩
    · rw [if_neg a2, if_pos ((gP j).mpr a2)]
      obtain ⟨n, t, hR, hO⟩ := h
      have hR1 := rl_pos hR (4 * tzix ch + tzix j) x
      have hO1 : tzOk (tzst u 5 (4 * tzix ch + tzix j) x) n t := hO
      have hE := ev_eq hR1 hO1 (4 * tzix ch) j
      obtain ⟨n', t', hR2, hO2⟩ : ∃ n' t', tzRl (xEvS (tzst u 5 (4 * tzix ch + tzix j) x) (4 * tzix ch)) (mWork (tzst v 8 (4 * tzix ch + tzix j) x) (4 * tzix ch) j) n' t' ∧ tzOk (xEvS (tzst u 5 (4 * tzix ch + tzix j) x) (4 * tzix ch)) n' t' := inv_ev hR1 hO1 _ _
      refine ⟨hE, n', t', ?_, hO2⟩
      show tzRl (tzst _ 5 _ (u 5 _)) (tzst _ 8 _ (v 8 _)) n' t'
      rw [hR.p]
      exact rl_pos hR2 _ _
end
section
set_option maxRecDepth 100000
/-! THE PLAIN LAW, 5: the sweep backward gives the slopes, the drift forward their sum, the leap -/
/-- what is still to be handed on below r, and what the parameter i has -/
def tzPh (D : Nat → Int32) (i r : Nat) (z : tzS) : Int32 := tzsm (fun j => z 8 j * D j) r + z 11 i
theorem ad_s (z : tzS) (k i : Nat) (x : Int32) : tzad z k i x k = upd (z k) i (z k i + x) := st_s _ _ _ _
theorem ad_n (z : tzS) {k j : Nat} (i : Nat) (x : Int32) (h : j ≠ k) : tzad z k i x j = z j := st_n _ _ _ h
theorem sb_s (z : tzS) (k i : Nat) (x : Int32) : tzsb z k i x k = upd (z k) i (z k i + -x) := by
  rw [tzsb, st_s, Int32.sub_eq_add_neg]
theorem sb_n (z : tzS) {k j : Nat} (i : Nat) (x : Int32) (h : j ≠ k) : tzsb z k i x j = z j := st_n _ _ _ h
theorem ph_ad (D : Nat → Int32) (i r : Nat) (z : tzS) (a : Nat) (x : Int32) (h : a < r) : tzPh D i r (tzad z 8 a x) = tzPh D i r z + x * D a := by
  unfold tzPh
  rw [ad_s, ad_n _ _ _ (by decide), sm_up _ _ _ _ _ h]
  grind
theorem ph_sb (D : Nat → Int32) (i r : Nat) (z : tzS) (a : Nat) (x : Int32) (h : a < r) : tzPh D i r (tzsb z 8 a x) = tzPh D i r z + -x * D a := by
  unfold tzPh
  rw [sb_s, sb_n _ _ _ (by decide), sm_up _ _ _ _ _ h]
  grind
theorem ph_s (D : Nat → Int32) (i r : Nat) (z : tzS) : tzPh D i (r + 1) z = tzPh D i r z + z 8 r * D r := by
  show tzsm (fun j => z 8 j * D j) r + z 8 r * D r + z 11 i = tzsm (fun j => z 8 j * D j) r + z 11 i + z 8 r * D r
  grind
theorem hand_ph {D : Nat → Int32} {i r : Nat} {z : tzS} (hi : i < 4) (h : tznok r (z 0 r) (z 1 r) (z 2 r)) (hD : D r = tzrt (z 0) (z 1) (z 2) (z 7) D (nI i) r) : tzPh D i r (xHand r z) = tzPh D i (r + 1) z := by
  rw [ph_s]
  rcases h with ⟨e, q⟩ | e | ⟨e, q1, q2⟩
  · rw [xHand, if_pos e, hD, tzrt, if_pos e]
    unfold tzPh
    rw [ad_n _ _ _ (by decide), ad_s]
    by_cases c : z 1 r = nI i
    · have c2 : tzix (z 1 r) = i := by rw [c]; exact tzix_nI (by omega)
      rw [if_pos c, c2, up_s]
      grind
    · have c2 : i ≠ tzix (z 1 r) := fun w => c (by rw [w]; exact q.1)
      rw [if_neg c, up_n _ _ c2]
      grind
  · have d0 : ¬ z 0 r = 0 := by rw [e]; decide
    have d2 : ¬ z 0 r = 2 := by rw [e]; decide
    have d3 : ¬ z 0 r = 3 := by rw [e]; decide
    have d4 : ¬ z 0 r = 4 := by rw [e]; decide
    have d5 : ¬ z 0 r = 5 := by rw [e]; decide
    rw [xHand, if_neg d0, if_neg d2, if_neg d3, if_neg d4, if_neg d5, hD, tzrt, if_neg d0, if_pos e]
    grind
  · rcases e with e | e | e | e
    · have d0 : ¬ z 0 r = 0 := by rw [e]; decide
      have d1 : ¬ z 0 r = 1 := by rw [e]; decide
      rw [xHand, if_neg d0, if_pos e, hD, tzrt, if_neg d0, if_neg d1, if_pos e, ph_ad _ _ _ _ _ _ q2.2, ph_ad _ _ _ _ _ _ q1.2]
      grind
    · have d0 : ¬ z 0 r = 0 := by rw [e]; decide
      have d1 : ¬ z 0 r = 1 := by rw [e]; decide
      have d2 : ¬ z 0 r = 2 := by rw [e]; decide
      rw [xHand, if_neg d0, if_neg d2, if_pos e, hD, tzrt, if_neg d0, if_neg d1, if_neg d2, if_pos e, ph_sb _ _ _ _ _ _ q2.2, ph_ad _ _ _ _ _ _ q1.2]
      grind
    · have d0 : ¬ z 0 r = 0 := by rw [e]; decide
      have d1 : ¬ z 0 r = 1 := by rw [e]; decide
      have d2 : ¬ z 0 r = 2 := by rw [e]; decide
      have d3 : ¬ z 0 r = 3 := by rw [e]; decide
      rw [xHand, if_neg d0, if_neg d2, if_neg d3, if_pos e, hD, tzrt, if_neg d0, if_neg d1, if_neg d2, if_neg d3, xPr, ph_ad _ _ _ _ _ _ q2.2, ph_ad _ _ _ _ _ _ q1.2]
      grind
    · have d0 : ¬ z 0 r = 0 := by rw [e]; decide
      have d1 : ¬ z 0 r = 1 := by rw [e]; decide
      have d2 : ¬ z 0 r = 2 := by rw [e]; decide
      have d3 : ¬ z 0 r = 3 := by rw [e]; decide
      have d4 : ¬ z 0 r = 4 := by rw [e]; decide
      rw [xHand, if_neg d0, if_neg d2, if_neg d3, if_neg d4, if_pos e, hD, tzrt, if_neg d0, if_neg d1, if_neg d2, if_neg d3, xPr, ph_ad _ _ _ _ _ _ q2.2, ph_ad _ _ _ _ _ _ q1.2]
      grind
/-- a node hands shares only to its parts -/
theorem hand_z {r j : Nat} {z : tzS} (h : tznok r (z 0 r) (z 1 r) (z 2 r)) (h1 : ¬ xHas (z 0 r) = 0 → j ≠ tzix (z 1 r) ∧ j ≠ tzix (z 2 r)) : (xHand r z) 8 j = z 8 j := by
  rcases h with ⟨e, q⟩ | e | ⟨e, q1, q2⟩
  · rw [xHand, if_pos e, ad_n _ _ _ (by decide)]
  · have d0 : ¬ z 0 r = 0 := by rw [e]; decide
    have d2 : ¬ z 0 r = 2 := by rw [e]; decide
    have d3 : ¬ z 0 r = 3 := by rw [e]; decide
    have d4 : ¬ z 0 r = 4 := by rw [e]; decide
    have d5 : ¬ z 0 r = 5 := by rw [e]; decide
    rw [xHand, if_neg d0, if_neg d2, if_neg d3, if_neg d4, if_neg d5]
  · rcases e with e | e | e | e
    · have d0 : ¬ z 0 r = 0 := by rw [e]; decide
      have w := h1 (by rw [e]; decide)
      rw [xHand, if_neg d0, if_pos e, ad_s, up_n _ _ w.2, ad_s, up_n _ _ w.1]
    · have d0 : ¬ z 0 r = 0 := by rw [e]; decide
      have d2 : ¬ z 0 r = 2 := by rw [e]; decide
      have w := h1 (by rw [e]; decide)
      rw [xHand, if_neg d0, if_neg d2, if_pos e, sb_s, up_n _ _ w.2, ad_s, up_n _ _ w.1]
    · have d0 : ¬ z 0 r = 0 := by rw [e]; decide
      have d2 : ¬ z 0 r = 2 := by rw [e]; decide
      have d3 : ¬ z 0 r = 3 := by rw [e]; decide
      have w := h1 (by rw [e]; decide)
      rw [xHand, if_neg d0, if_neg d2, if_neg d3, if_pos e, xPr, ad_s, up_n _ _ w.2, ad_s, up_n _ _ w.1]
    · have d0 : ¬ z 0 r = 0 := by rw [e]; decide
      have d2 : ¬ z 0 r = 2 := by rw [e]; decide
      have d3 : ¬ z 0 r = 3 := by rw [e]; decide
      have d4 : ¬ z 0 r = 4 := by rw [e]; decide
      have w := h1 (by rw [e]; decide)
      rw [xHand, if_neg d0, if_neg d2, if_neg d3, if_neg d4, if_pos e, xPr, ad_s, up_n _ _ w.2, ad_s, up_n _ _ w.1]
theorem sw_dn {n t i : Nat} {K L R T V N D : Nat → Int32} (hi : i < 4) (hg : ∀ k, k < n → tznok k (K k) (L k) (R k)) (hN : tzND n t K L R T N) (hD : ∀ j, j < n → ¬ N j = 0 → D j = tzrt K L R V D (nI i) j) :
    ∀ r, r ≤ n → ∀ z : tzS, z 0 = K → z 1 = L → z 2 = R → z 7 = V → z 10 = N → (∀ j, j < n → N j = 0 → z 8 j = 0) → (tzdn xSw1 r z) 11 i = tzPh D i r z := by
  intro r
  induction r with
  | zero =>
    intro _ z _ _ _ _ _ _
    show z 11 i = 0 + z 11 i
    grind
  | succ r ih =>
    intro hr z h0 h1 h2 h7 h10 hz
    have kp := xSw1_kp2 r z
    have ih' := ih (by omega) (xSw1 r z) ((kp 0 (by decide)).trans h0) ((kp 1 (by decide)).trans h1) ((kp 2 (by decide)).trans h2) ((kp 7 (by decide)).trans h7) ((kp 10 (by decide)).trans h10)
    show (tzdn xSw1 r (xSw1 r z)) 11 i = tzPh D i (r + 1) z
    by_cases c : z 10 r = 0
    · rw [ih' (by rw [xSw1, if_pos c]; exact hz), xSw1, if_pos c, ph_s, hz r (by omega) (by rw [← h10]; exact c)]
      grind
    · have c' : ¬ N r = 0 := by rw [← h10]; exact c
      have hok : tznok r (z 0 r) (z 1 r) (z 2 r) := by rw [h0, h1, h2]; exact hg r (by omega)
      rw [ih' ?_, xSw1, if_neg c]
      · exact hand_ph hi hok (by rw [h0, h1, h2, h7]; exact hD r (by omega) c')
      · intro j hj hj0
        rw [xSw1, if_neg c, hand_z hok (fun hh => ?_)]
        · exact hz j hj hj0
        · rw [h0] at hh
          have q := nd_cl hg hN (by omega) c' hh
          rw [h1, h2]
          exact ⟨fun w => q.1 (by rw [← w]; exact hj0), fun w => q.2 (by rw [← w]; exact hj0)⟩
theorem sh0_z (z : tzS) : ∀ i j, j < i → (tzit xSh0 i z) 8 j = 0 := by
  intro i
  induction i with
  | zero => intro j hj; omega
  | succ i ih =>
    intro j hj
    rw [tzit_s, xSh0, st_s]
    by_cases e : j = i
    · subst e; exact up_s _ _ _
    · rw [up_n _ _ e]; exact ih j (by omega)
theorem sl0_z (z : tzS) : ∀ i j, j < i → (tzit xSl0 i z) 11 j = 0 := by
  intro i
  induction i with
  | zero => intro j hj; omega
  | succ i ih =>
    intro j hj
    rw [tzit_s, xSl0, st_s]
    by_cases e : j = i
    · subst e; exact up_s _ _ _
    · rw [up_n _ _ e]; exact ih j (by omega)
theorem sh1_z {n t : Nat} {T Wt N D : Nat → Int32} {z : tzS} (h3 : z 3 = T) (h4 : z 4 = Wt) (hz : ∀ j, j < n → z 8 j = 0) (ht : ∀ q, q < t → tzix (T q) < n ∧ ¬ N (tzix (T q)) = 0) : ∀ i, i ≤ t →
    tzsm (fun j => (tzit xSh1 i z) 8 j * D j) n = tzsm (fun q => Wt q * D (tzix (T q))) i ∧ ∀ j, j < n → N j = 0 → (tzit xSh1 i z) 8 j = 0 := by
  intro i
  induction i with
  | zero =>
    intro _
    refine ⟨sm_zero (fun j hj => ?_), fun j hj _ => hz j hj⟩
    show z 8 j * D j = 0
    rw [hz j hj]
    grind
  | succ i ih =>
    intro hi
    obtain ⟨i1, i2⟩ := ih (by omega)
    have kp : tzKp [8] z (tzit xSh1 i z) := tzKp.rf.it (fun _ _ => tzKp.rf.ad (by decide))
    obtain ⟨t1, t2⟩ := ht i (by omega)
    rw [tzit_s, xSh1, ad_s, kp 3 (by decide), kp 4 (by decide), h3, h4]
    refine ⟨?_, fun j hj hj0 => ?_⟩
    · rw [sm_up _ _ _ _ _ t1, i1]
      rfl
    · rw [up_n _ _ (fun w => t2 (by rw [← w]; exact hj0))]
      exact i2 j hj hj0
/-- after a sweep the slopes are right: for all values and rates of the nodes -/
def tzSl (z : tzS) (b n t : Nat) : Prop := ∀ i, i < 4 → ∀ V D : Nat → Int32, tzVS (fun _ => True) n (z 0) (z 1) (z 2) (z 5) b V → tzDS n (z 0) (z 1) (z 2) V (nI i) D → z 11 i = tzsm (fun q => z 4 q * D (tzix (z 3 q))) t
theorem swp_sl {u : tzS} {n t : Nat} (hW : tzWF u n t) (hO : tzOk u n t) (b : Nat) : tzSl (xSwp u b) b n t := by
  intro i hi V D hV hD
  have kp := xSwp_kp u b
  rw [kp 0 (by decide), kp 1 (by decide), kp 2 (by decide), kp 5 (by decide)] at hV
  rw [kp 0 (by decide), kp 1 (by decide), kp 2 (by decide)] at hD
  rw [kp 4 (by decide), kp 3 (by decide)]
  obtain ⟨hN, hX⟩ := evs hW hO b
  have hv := v_eq hW hO hV
  have ke := xEvS_kp u b
  have kA : tzKp [8] (xEvS u b) (tzit xSh0 n (xEvS u b)) := tzKp.rf.it (fun _ _ => tzKp.rf.st (by decide))
  have kB : tzKp [11] (tzit xSh0 n (xEvS u b)) (tzit xSl0 4 (tzit xSh0 n (xEvS u b))) := tzKp.rf.it (fun _ _ => tzKp.rf.st (by decide))
  have kAB : tzKp [8, 11] (xEvS u b) (tzit xSl0 4 (tzit xSh0 n (xEvS u b))) := (kA.mono (by decide)).tr (kB.mono (by decide))
  have kC : tzKp [8] (tzit xSl0 4 (tzit xSh0 n (xEvS u b))) (tzit xSh1 t (tzit xSl0 4 (tzit xSh0 n (xEvS u b)))) := tzKp.rf.it (fun _ _ => tzKp.rf.ad (by decide))
  have kABC : tzKp [8, 11] (xEvS u b) (tzit xSh1 t (tzit xSl0 4 (tzit xSh0 n (xEvS u b)))) := kAB.tr (kC.mono (by decide))
  have hs := sh1_z (n := n) (t := t) (T := u 3) (Wt := u 4) (N := (xEvS u b) 10) (D := D) (z := tzit xSl0 4 (tzit xSh0 n (xEvS u b))) ((kAB 3 (by decide)).trans (ke 3 (by decide))) ((kAB 4 (by decide)).trans (ke 4 (by decide)))
    (fun j hj => by rw [kB 8 (by decide)]; exact sh0_z _ n j hj) (fun q hq => ⟨tn_lt hW hq, nd_tm hN hq (tn_lt hW hq)⟩) t (Nat.le_refl _)
  have hd := sw_dn (D := D) hi hW.2.2.2.2.1 hN (V := (xEvS u b) 7) (fun j hj hn => by
    rw [hD j hj]
    refine rt_cg (fun h0 h1 => ?_)
    have c := (hW.nd hj).c h0 h1
    have hh := nok_h2 (hW.nd hj) h0 h1
    have w := nd_cl hW.2.2.2.2.1 hN hj hn hh
    have c1 := c.1.2
    have c2 := c.2.2
    exact ⟨⟨(hv _ (by omega) w.1).symm, (hv _ (by omega) w.2).symm⟩, rfl, rfl⟩) n (Nat.le_refl _) (tzit xSh1 t (tzit xSl0 4 (tzit xSh0 n (xEvS u b))))
    ((kABC 0 (by decide)).trans (ke 0 (by decide))) ((kABC 1 (by decide)).trans (ke 1 (by decide))) ((kABC 2 (by decide)).trans (ke 2 (by decide))) (kABC 7 (by decide)) (kABC 10 (by decide)) hs.2
  rw [xSwp, hW.n, hW.t, hd, tzPh, hs.1, kC 11 (by decide), sl0_z _ 4 i hi]
  grind
theorem swp_ok {u : tzS} {n t : Nat} (hW : tzWF u n t) (hO : tzOk u n t) (b : Nat) : tzOk (xSwp u b) n t := by
  have kp := xSwp_kp u b
  have k2 : tzKp [8, 11] (xEvS u b) (xSwp u b) := tzKp.dn xSw1_kp2 _ _ (((tzKp.rf.it (S := [8, 11]) (f := xSh0) (fun _ _ => tzKp.rf.st (by decide))).it (f := xSl0) (fun _ _ => tzKp.rf.st (by decide))).it (f := xSh1) (fun _ _ => tzKp.rf.ad (by decide)))
  refine nd_ok (u := u) ?_ (kp 0 (by decide)) (kp 1 (by decide)) (kp 2 (by decide)) (kp 3 (by decide))
  rw [k2 10 (by decide)]
  exact (evs hW hO b).1
/-- the reference's slope, when the slopes are right -/
theorem stp_eq {z v : tzS} {n t b i : Nat} (hR : tzRl z v n t) (hS : tzSl z b n t) (hi : i < 4) : z 11 i = mStp (mWork v b (nI i)) := by
  have km := mWork_kp v b (nI i)
  obtain ⟨h1, h2⟩ := mwk hR b (nI i)
  rw [hS i hi _ _ h1 h2, mStp, km 6 (by decide), km 5 (by decide), km 4 (by decide), hR.wm.t, hR.tw, hR.tn]
theorem op_slope {u v : tzS} (h : tzInv u v) (ch j : Int32) : (xSlope u ch j).1 = (mSlope v ch j).1 ∧ tzInv (xSlope u ch j).2 (mSlope v ch j).2 := by
  by_cases a1 : xIsC ch = 0
  · rw [xSlope, mSlope, if_pos a1, if_neg (fun q => (gC ch).mp q a1)]
    exact ⟨rfl, h⟩
  · rw [xSlope, mSlope, if_neg a1, if_pos ((gC ch).mpr a1)]
    by_cases a2 : xIsP j = 0
    · rw [if_pos a2, if_neg (fun q => (gP j).mp q a2)]
      exact ⟨rfl, h⟩
    · rw [if_neg a2, if_pos ((gP j).mpr a2)]
      obtain ⟨n, t, hR, hO⟩ := h
      have hj := tz_isP a2
      have hR2 : tzRl (xSwp u (4 * tzix ch)) v n t := hR.kp (xSwp_kp u _) (S' := []) tzKp.rf (by decide) (by decide)
      refine ⟨?_, n, t, hR.kp (xSwp_kp u _) (mWork_kp v _ _) (by decide) (by decide), swp_ok hR.1 hO _⟩
      show (xSwp u (4 * tzix ch)) 11 (tzix j) = mStp (mWork v (4 * tzix ch) j)
      rw [stp_eq hR2 (swp_sl hR.1 hO _) hj.2, ← hj.1]
/-! the drift -/
theorem dr_it {n b : Nat} {K L R M V N : Nat → Int32} (hg : ∀ k, k < n → tznok k (K k) (L k) (R k)) {z : tzS} (e0 : z 0 = K) (e1 : z 1 = L) (e2 : z 2 = R) (e6 : z 6 = M) (e7 : z 7 = V) (e10 : z 10 = N) : ∀ i, i ≤ n → ∀ j, j < i → ¬ N j = 0 → (tzit (xDr1 b) i z) 9 j = tzchg K L R M V ((tzit (xDr1 b) i z) 9) b j := by
  intro i
  induction i with
  | zero => intro _ j hj; omega
  | succ i ih =>
    intro hi
    have kp : tzKp [9] z (tzit (xDr1 b) i z) := tzKp.rf.it (fun _ _ => .ite .rf (tzKp.rf.st (by decide)))
    have ih := ih (by omega)
    rw [tzit_s]
    by_cases c : (tzit (xDr1 b) i z) 10 i = 0
    · rw [xDr1, if_pos c]
      intro j hj hN
      by_cases e : j = i
      · subst e
        rw [kp 10 (by decide), e10] at c
        exact absurd c hN
      · exact ih j (by omega) hN
    · rw [xDr1, if_neg c, st_s]
      refine cs_step (N := fun j => ¬ N j = 0) hg (by omega) ih ?_
      rw [xChg, kp 0 (by decide), kp 1 (by decide), kp 2 (by decide), kp 6 (by decide), kp 7 (by decide), e0, e1, e2, e6, e7]
theorem dr_lin {n b : Nat} {K L R M V D0 D1 D2 D3 C : Nat → Int32} {N : Nat → Prop} (hg : ∀ k, k < n → tznok k (K k) (L k) (R k)) (hcl : ∀ j, j < n → N j → ¬ xHas (K j) = 0 → N (tzix (L j)) ∧ N (tzix (R j))) (hC : tzCS N n K L R M V b C)
    (h0 : ∀ j, j < n → N j → D0 j = tzrt K L R V D0 (nI 0) j) (h1 : ∀ j, j < n → N j → D1 j = tzrt K L R V D1 (nI 1) j) (h2 : ∀ j, j < n → N j → D2 j = tzrt K L R V D2 (nI 2) j) (h3 : ∀ j, j < n → N j → D3 j = tzrt K L R V D3 (nI 3) j) :
    ∀ j, j < n → N j → C j = M (b + 0) * D0 j + M (b + 1) * D1 j + M (b + 2) * D2 j + M (b + 3) * D3 j := by
  intro j
  induction j using Nat.strongRecOn with
  | ind j ih =>
    intro hj hN
    have hok := hg j hj
    rw [hC j hj hN, h0 j hj hN, h1 j hj hN, h2 j hj hN, h3 j hj hN]
    unfold tzchg tzrt
    by_cases k0 : K j = 0
    · have q := hok.p k0
      obtain ⟨a, ea, ha⟩ : ∃ a, L j = nI a ∧ a < 4 := ⟨_, q.1, q.2⟩
      simp only [if_pos k0, ea]
      rw [tzix_nI (by omega)]
      have d : ∀ i, i < 4 → (nI a = nI i ↔ a = i) := fun i hi => nI_eq (by omega) (by omega)
      rcases (by omega : a = 0 ∨ a = 1 ∨ a = 2 ∨ a = 3) with e | e | e | e <;> subst e
      · rw [if_pos rfl, if_neg (fun w => absurd ((d 1 (by decide)).mp w) (by decide)), if_neg (fun w => absurd ((d 2 (by decide)).mp w) (by decide)), if_neg (fun w => absurd ((d 3 (by decide)).mp w) (by decide))]; grind
      · rw [if_neg (fun w => absurd ((d 0 (by decide)).mp w) (by decide)), if_pos rfl, if_neg (fun w => absurd ((d 2 (by decide)).mp w) (by decide)), if_neg (fun w => absurd ((d 3 (by decide)).mp w) (by decide))]; grind
      · rw [if_neg (fun w => absurd ((d 0 (by decide)).mp w) (by decide)), if_neg (fun w => absurd ((d 1 (by decide)).mp w) (by decide)), if_pos rfl, if_neg (fun w => absurd ((d 3 (by decide)).mp w) (by decide))]; grind
      · rw [if_neg (fun w => absurd ((d 0 (by decide)).mp w) (by decide)), if_neg (fun w => absurd ((d 1 (by decide)).mp w) (by decide)), if_neg (fun w => absurd ((d 2 (by decide)).mp w) (by decide)), if_pos rfl]; grind
    · simp only [if_neg k0]
      by_cases k1 : K j = 1
      · simp only [if_pos k1]; grind
      · simp only [if_neg k1]
        have hh := nok_h2 hok k0 k1
        have c := hok.c k0 k1
        have w := hcl j hj hN hh
        have c1 := c.1.2
        have c2 := c.2.2
        rw [ih _ c1 (by omega) w.1, ih _ c2 (by omega) w.2]
        by_cases k2 : K j = 2
        · simp only [if_pos k2]; grind
        · simp only [if_neg k2]
          by_cases k3 : K j = 3
          · simp only [if_pos k3]; grind
          · simp only [if_neg k3]; grind
theorem sm_4 (Wt D0 D1 D2 D3 : Nat → Int32) (m0 m1 m2 m3 : Int32) (t : Nat) : tzsm (fun q => Wt q * (m0 * D0 q + m1 * D1 q + m2 * D2 q + m3 * D3 q)) t = m0 * tzsm (fun q => Wt q * D0 q) t + m1 * tzsm (fun q => Wt q * D1 q) t + m2 * tzsm (fun q => Wt q * D2 q) t + m3 * tzsm (fun q => Wt q * D3 q) t := by
  induction t with
  | zero =>
    show (0 : Int32) = m0 * 0 + m1 * 0 + m2 * 0 + m3 * 0
    grind
  | succ t ih =>
    show tzsm (fun q => Wt q * (m0 * D0 q + m1 * D1 q + m2 * D2 q + m3 * D3 q)) t + Wt t * (m0 * D0 t + m1 * D1 t + m2 * D2 t + m3 * D3 t) = m0 * (tzsm (fun q => Wt q * D0 q) t + Wt t * D0 t) + m1 * (tzsm (fun q => Wt q * D1 q) t + Wt t * D1 t) + m2 * (tzsm (fun q => Wt q * D2 q) t + Wt t * D2 t) + m3 * (tzsm (fun q => Wt q * D3 q) t + Wt t * D3 t)
    rw [ih]
    grind
theorem op_drift {u v : tzS} (h : tzInv u v) (ch : Int32) : (xDrift u ch).1 = (mDrift v ch).1 ∧ tzInv (xDrift u ch).2 (mDrift v ch).2 := by
  by_cases a1 : xIsC ch = 0
  · rw [xDrift, mDrift, if_pos a1, if_neg (fun q => (gC ch).mp q a1)]
    exact ⟨rfl, h⟩
  · rw [xDrift, mDrift, if_neg a1, if_pos ((gC ch).mpr a1)]
    obtain ⟨n, t, hR, hO⟩ := h
    have hW := hR.1
    generalize 4 * tzix ch = b
    have kx : tzKp [7, 9, 10, 15] u (xDrS u b) := xDrI_kp u b _
    have k9 : tzKp [9] (xEvS u b) (xDrS u b) := tzKp.rf.it (fun _ _ => .ite .rf (tzKp.rf.st (by decide)))
    have ke := xEvS_kp u b
    have g1 : tzRl (xDrS u b) (tzit (mDr1 b) 4 v) n t := hR.kp kx (mDrI_kp v b 4) (by decide) (by decide)
    have g2 : tzOk (xDrS u b) n t := (evs_ok hW hO b).kp k9 (by decide)
    have g3 : tzInv (xDrS u b) (tzit (mDr1 b) 4 v) := ⟨n, t, g1, g2⟩
    dsimp only
    refine ⟨?_, g3⟩
    obtain ⟨hN, hX⟩ := evs hW hO b
    have hRi : ∀ i, tzRl u (tzit (mDr1 b) i v) n t := fun i => hR.kp (S := []) tzKp.rf (mDrI_kp v b i) (by decide) (by decide)
    have hw : ∀ i, tzVS (fun _ => True) n (u 0) (u 1) (u 2) (u 5) b ((tzit (mDr1 b) (i + 1) v) 10) ∧ tzDS n (u 0) (u 1) (u 2) ((tzit (mDr1 b) (i + 1) v) 10) (nI i) ((tzit (mDr1 b) (i + 1) v) 11) := fun i => by
      rw [tzit_s, mDr1]
      exact mwk (hRi i) b (nI i)
    have hd : ∀ i, ∀ j, j < n → ¬ (xEvS u b) 10 j = 0 → (tzit (mDr1 b) (i + 1) v) 11 j = tzrt (u 0) (u 1) (u 2) ((xEvS u b) 7) ((tzit (mDr1 b) (i + 1) v) 11) (nI i) j := fun i j hj hn => by
      have hv := v_eq hW hO (hw i).1
      refine ((hw i).2 j hj).trans (rt_cg (fun h0 h1 => ?_))
      have c := (hW.nd hj).c h0 h1
      have hh := nok_h2 (hW.nd hj) h0 h1
      have w := nd_cl hW.2.2.2.2.1 hN hj hn hh
      have c1 := c.1.2
      have c2 := c.2.2
      exact ⟨⟨(hv _ (by omega) w.1).symm, (hv _ (by omega) w.2).symm⟩, rfl, rfl⟩
    have hC : tzCS (fun j => ¬ (xEvS u b) 10 j = 0) n (u 0) (u 1) (u 2) (u 6) ((xEvS u b) 7) b ((xDrS u b) 9) := by
      rw [xDrS, hW.n]
      exact dr_it hW.2.2.2.2.1 (ke 0 (by decide)) (ke 1 (by decide)) (ke 2 (by decide)) (ke 6 (by decide)) rfl rfl n (Nat.le_refl _)
    have hl := dr_lin hW.2.2.2.2.1 (fun j hj hn hh => nd_cl hW.2.2.2.2.1 hN hj hn hh) hC (hd 0) (hd 1) (hd 2) (hd 3)
    show xDrR (xDrS u b) = tzsm (mDrR v b) 4
    have hm : ∀ i, mDrR v b i = u 6 (b + i) * tzsm (fun q => u 4 q * (tzit (mDr1 b) (i + 1) v) 11 (tzix (u 3 q))) t := fun i => by
      have km := mDrI_kp v b (i + 1)
      rw [mDrR, mStp, km 9 (by decide), km 6 (by decide), km 5 (by decide), km 4 (by decide), hR.wm.t, hR.m, hR.tw, hR.tn]
    rw [xDrR, kx 4 (by decide), kx 3 (by decide), kx 13 (by decide), hW.t]
    show _ = 0 + mDrR v b 0 + mDrR v b 1 + mDrR v b 2 + mDrR v b 3
    rw [hm 0, hm 1, hm 2, hm 3, show ∀ x : Int32, 0 + x = x from fun x => by grind]
    rw [← sm_4 (u 4) (fun q => (tzit (mDr1 b) (0 + 1) v) 11 (tzix (u 3 q))) (fun q => (tzit (mDr1 b) (1 + 1) v) 11 (tzix (u 3 q))) (fun q => (tzit (mDr1 b) (2 + 1) v) 11 (tzix (u 3 q))) (fun q => (tzit (mDr1 b) (3 + 1) v) 11 (tzix (u 3 q)))]
    refine sm_congr (fun q hq => ?_)
    show u 4 q * (xDrS u b) 9 (tzix (u 3 q)) = _
    rw [hl _ (tn_lt hW hq) (nd_tm hN hq (tn_lt hW hq))]
/-! the leap -/
theorem kk0_z {z v : tzS} {n t b : Nat} (hR : tzRl z v n t) (hS : tzSl z b n t) : ∀ i, i ≤ 4 → ∀ j, j < i → (tzit (mKk0 b) i v) 12 j = z 11 j := by
  intro i
  induction i with
  | zero => intro _ j hj; omega
  | succ i ih =>
    intro hi j hj
    have hRi : tzRl z (tzit (mKk0 b) i v) n t := hR.kp (S := []) tzKp.rf (mKkA_kp v b i) (by decide) (by decide)
    have km := mWork_kp (tzit (mKk0 b) i v) b (nI i)
    rw [tzit_s, mKk0, st_s]
    by_cases e : j = i
    · subst e
      rw [up_s]
      exact (stp_eq hRi hS (by omega)).symm
    · rw [up_n _ _ e, km 12 (by decide)]
      exact ih (by omega) j (by omega)
theorem kick_rl {z v : tzS} {n t b : Nat} (hR : tzRl z v n t) (hS : tzSl z b n t) : tzRl (xKick z b) (mKick v b) n t := by
  have h := it_rel (P := fun x y => (tzRl x y n t ∧ x 11 = z 11) ∧ ∀ j, j < 4 → y 12 j = z 11 j) (f := xKk1 b) (g := mKk1 b) (u := z) (v := tzit (mKk0 b) 4 v) (n := 4)
    ⟨⟨hR.kp (S := []) tzKp.rf (mKkA_kp v b 4) (by decide) (by decide), rfl⟩, kk0_z hR hS 4 (Nat.le_refl _)⟩ (fun i hi x y ⟨⟨h1, h2⟩, h3⟩ => by
      refine ⟨⟨?_, h2⟩, h3⟩
      show tzRl (tzst x 6 (b + i) (x 6 (b + i) + (x 11 i >>> (x 14 0 &&& 31)))) (tzst y 9 (b + i) (y 9 (b + i) + (y 12 i >>> (y 7 0 &&& 31)))) n t
      rw [h1.m, h1.2.2.2.1, h3 i hi, h2]
      exact rl_mom h1 _ _)
  exact h.1.1
theorem mv_rl {z v : tzS} {n t : Nat} (b : Nat) (hR : tzRl z v n t) : tzRl (tzit (xMv1 b) 4 z) (tzit (mMv1 b) 4 v) n t :=
  it_rel (P := fun x y => tzRl x y n t) hR (fun i hi x y h1 => by
    show tzRl (tzst x 5 (b + i) (x 5 (b + i) + x 6 (b + i))) (tzst y 8 (b + i) (y 8 (b + i) + y 9 (b + i))) n t
    rw [h1.m, h1.p]
    exact rl_pos h1 _ _)
theorem lp_rel {z v : tzS} {n t b i : Nat} (h : (tzRl z v n t ∧ tzOk z n t) ∧ tzSl z b n t) : (tzRl (xLp1 b i z) (mLp1 b i v) n t ∧ tzOk (xLp1 b i z) n t) ∧ tzSl (xLp1 b i z) b n t := by
  obtain ⟨⟨hR, hO⟩, hS⟩ := h
  rw [xLp1, mLp1]
  have r1 := mv_rl b (kick_rl hR hS)
  have o1 : tzOk (tzit (xMv1 b) 4 (xKick z b)) n t := (hO.kp (xKick_kp z b) (by decide)).kp (xMvI_kp _ b 4) (by decide)
  generalize tzit (xMv1 b) 4 (xKick z b) = x at r1 o1 ⊢
  generalize tzit (mMv1 b) 4 (mKick v b) = y at r1 ⊢
  have r2 : tzRl (xSwp x b) y n t := r1.kp (xSwp_kp x b) (S' := []) tzKp.rf (by decide) (by decide)
  have s2 := swp_sl r1.1 o1 b
  have o2 := swp_ok r1.1 o1 b
  have kk := xKick_kp (xSwp x b) b
  refine ⟨⟨kick_rl r2 s2, o2.kp kk (by decide)⟩, ?_⟩
  intro i hi V D hV hD
  rw [kk 0 (by decide), kk 1 (by decide), kk 2 (by decide), kk 5 (by decide)] at hV
  rw [kk 0 (by decide), kk 1 (by decide), kk 2 (by decide)] at hD
  rw [kk 11 (by decide), kk 4 (by decide), kk 3 (by decide)]
  exact s2 i hi V D hV hD
theorem op_leap {u v : tzS} (h : tzInv u v) (ch x : Int32) : (xLeap u ch x).1 = (mLeap v ch x).1 ∧ tzInv (xLeap u ch x).2 (mLeap v ch x).2 := by
  by_cases a1 : xIsC ch = 0
  · rw [xLeap, mLeap, if_pos a1, if_neg (fun q => (gC ch).mp q a1)]
    exact ⟨rfl, h⟩
  · rw [xLeap, mLeap, if_neg a1, if_pos ((gC ch).mpr a1)]
    by_cases a2 : x < 0
    · rw [if_pos a2, if_pos a2]
      exact ⟨rfl, h⟩
    · rw [if_neg a2, if_neg a2]
      by_cases a3 : x ≤ 40
      · rw [if_pos a3, if_pos a3]
        obtain ⟨n, t, hR, hO⟩ := h
        generalize 4 * tzix ch = b
        have r1 : tzRl (xSwp u b) v n t := hR.kp (xSwp_kp u b) (S' := []) tzKp.rf (by decide) (by decide)
        have hL := it_rel (P := fun z y => (tzRl z y n t ∧ tzOk z n t) ∧ tzSl z b n t) (f := xLp1 b) (g := mLp1 b) (n := tzix x) ⟨⟨r1, swp_ok hR.1 hO b⟩, swp_sl hR.1 hO b⟩ (fun i _ z y q => lp_rel q)
        refine ⟨?_, ?_⟩
        · show xEvR (xEvS (xLpS u b (tzix x)) b) &&& 255 = mTot (mLpS v b (tzix x)) &&& 255
          rw [xLpS, mLpS, ev_eq hL.1.1 hL.1.2 b 0]
        · show tzInv (xEvS (xLpS u b (tzix x)) b) (mLpS v b (tzix x))
          rw [xLpS, mLpS]
          exact inv_ev hL.1.1 hL.1.2 b 0
      · rw [if_neg a3, if_neg a3]
        exact ⟨rfl, h⟩
/-- the two at their making -/
theorem inv_0 : tzInv (fun _ _ => 0) (fun _ _ => 0) :=
  ⟨0, 0, ⟨⟨nI_0.symm, by decide, nI_0.symm, by decide, fun k hk => absurd hk (by omega), fun k hk => absurd hk (by omega)⟩, nI_0.symm, nI_0.symm, rfl, rfl, rfl, rfl, rfl, rfl, rfl, fun k hk => absurd hk (by omega)⟩, Or.inl rfl⟩
theorem inv_wf {u v : tzS} (h : tzInv u v) : ∃ n t, tzWF u n t ∧ tzWM v n t := by
  obtain ⟨n, t, hR, -⟩ := h
  exact ⟨n, t, hR.1, hR.wm⟩
end
section
set_option maxRecDepth 100000
/-- every place 0 -/
def tz0 : tzS := fun _ _ => 0
abbrev tzn0 : List Value := [.null, .null, .null, .null, .null, .null, .null, .null, .null, .null, .null, .null, .int 0, .int 0, .int 0, .int 0]
/-- what a constructor leaves: the whole world, every place 0 -/
def tzBI0 (D : va_G) (A : Nat → Prop) (h0 : Nat) (q : (Nat → Nat) × (Nat → ClassId)) (t : State) : Prop := q.1 16 = h0 ∧ va_P D vwCl (wX0 q.1 q.2 tz0) t.heap ∧ va_K D vwCl (tX0 q.2) t ∧ va_D A (wX0 q.1 q.2 tz0)
set_option maxHeartbeats 4000000 in
set_option maxRecDepth 100000 in
theorem kX0_init (l : Launch) (D : va_G) (h0 sz : Nat) : Met l yX0_init (ws_ yX0_init cX0_init 1 none) ({ frames := 1, cells := 12, slots := 212, locals := 12 }) (va_Pc [.ref h0] (fun U => U.heap.size = sz ∧ va_P D vwCl [(h0, .inr (0, tzn0))] U.heap ∧ va_K D vwCl [] U ∧ va_D (fun _ => True) [(h0, .inr (0, tzn0))])) (va_Qv (fun _ : (Nat → Nat) × (Nat → ClassId) => True) (tzBI0 D (va_A [(h0, .inr (0, tzn0))] sz) h0) (va_A [(h0, .inr (0, tzn0))] sz)) 12 212 (va_A [(h0, .inr (0, tzn0))] sz) := by
  refine Met.ofW (cc := cX0_init) (maxL := 1) (ret := none) (by decide) rfl ?_
  intro p e s m args below meth cd s₁ B hml hv
  obtain ⟨rfl, hsz, hP, hK, hD0⟩ := hv
  have hx := B.exec
  have hb := B.bytes
  have hr := B.returns
  have hts := atoms_spec (ws := ws_ yX0_init cX0_init 1 none) B.pre
  have hts : ∀ w ∈ lw_all, w.before _ s = true := fun w h => hts w (List.mem_cons_of_mem _ h)
  have hown : s.vm.findClass RX0 = some m.cls := findClass_of_methodNamed B.named
  have hlocks := B.notSynchronized
  have hin : meth.name = "<init>" := (name_of_methodNamed B.named B.method).1
  subst hsz
  have hD := hD0.self (sz := s.heap.size)
  generalize hAe : va_A [(h0, .inr (0, tzn0))] s.heap.size = A at hD ⊢
  have hA : ∀ q : Nat, s.heap.size ≤ q → A q := fun q h => by rw [← hAe]; exact Or.inr h
  have hS : va_S A s.heap s.heap [] := va_S.rf
  have hl := lv_entry ([.ref h0]) (n := 1) (Nat.le_of_ble_eq_true rfl)
  rw [lg_entry_eq]
  generalize (lg_sl ([.ref h0]) ++ List.replicate (1 - (lg_sl ([.ref h0])).length) Slot.unset).toArray = ls at hl ⊢
  have hl : lv_has ls 1 [(0, .ref h0)] := hl
  refine lv_aload_n hx hb dX0_init_0 rfl (lv_at hl 0 rfl) ?_
  refine W.objInit hx hb hown (hts _ q25) (hts _ q26) (hts _ q27) rfl (by rw [hml]; exact hl.1) rfl dX0_init_1 (Nat.le_of_ble_eq_true rfl) (Nat.le_of_ble_eq_true rfl) ?_
  refine W.eq (g2 := F0 m 4 ls []) rfl ?_
  refine lv_aload_n hx hb dX0_init_4 rfl (lv_at hl 0 rfl) ?_
  refine lv_bipush (v := 24) hx hb dX0_init_5 (by decide) ?_
  refine va_newa (atype := .int) (ty := .int) (N' := 24) (a0 := (24, .inl (fun _ => 0))) hx hb (hts _ q77) rfl hK hP hD hS hA (fun _ => rfl) (by decide) (by decide +kernel) (by decide) (Nat.le_of_ble_eq_true rfl) (Nat.le_of_ble_eq_true rfl) dX0_init_7 (fun q0 k0 H hK hP hD hS => ?_)
  have hP : va_P D vwCl [(h0, .inr (0, [.null, .null, .null, .null, .null, .null, .null, .null, .null, .null, .null, .null, .int 0, .int 0, .int 0, .int 0])), (q0, .inl (k0, 24, .inl (fun _ => 0)))] H := hP
  have hD : va_D A [(h0, .inr (0, [.null, .null, .null, .null, .null, .null, .null, .null, .null, .null, .null, .null, .int 0, .int 0, .int 0, .int 0])), (q0, .inl (k0, 24, .inl (fun _ => 0)))] := hD
  have hK : va_K D vwCl [(k0, .int)] s := hK
  refine W.widen (k := 1) (n := 24) (Nat.le_of_ble_eq_true rfl) (Nat.le_of_ble_eq_true rfl) ?_
  refine va_putF (D := D) (ci := 0) (v := .ref q0) (ty := .array .int) (C := RX0) (T := TX0) (N := 16) hx hb hts in_X0 tyX0 tyX0_ok nmX0 hown hK hP hD hS 0 rfl rfl 0 (by decide) (hts _ q28) (fun _ h9 => h9) rfl hin rfl (by decide +kernel) rfl rfl (Nat.le_of_ble_eq_true rfl) dX0_init_9 (fun H locs hP hD hS => ?_)
  have hP : va_P D vwCl [(h0, .inr (0, [.ref q0, .null, .null, .null, .null, .null, .null, .null, .null, .null, .null, .null, .int 0, .int 0, .int 0, .int 0])), (q0, .inl (k0, 24, .inl (fun _ => 0)))] H := hP
  have hD : va_D A [(h0, .inr (0, [.ref q0, .null, .null, .null, .null, .null, .null, .null, .null, .null, .null, .null, .int 0, .int 0, .int 0, .int 0])), (q0, .inl (k0, 24, .inl (fun _ => 0)))] := hD
  refine lv_aload_n hx hb dX0_init_12 rfl (lv_at hl 0 rfl) ?_
  refine lv_bipush (v := 24) hx hb dX0_init_13 (by decide) ?_
  refine va_newa (atype := .int) (ty := .int) (N' := 24) (a0 := (24, .inl (fun _ => 0))) hx hb (hts _ q77) rfl hK hP hD hS hA (fun _ => rfl) (by decide) (by decide +kernel) (by decide) (Nat.le_of_ble_eq_true rfl) (Nat.le_of_ble_eq_true rfl) dX0_init_15 (fun q1 k1 H hK hP hD hS => ?_)
  have hP : va_P D vwCl [(h0, .inr (0, [.ref q0, .null, .null, .null, .null, .null, .null, .null, .null, .null, .null, .null, .int 0, .int 0, .int 0, .int 0])), (q0, .inl (k0, 24, .inl (fun _ => 0))), (q1, .inl (k1, 24, .inl (fun _ => 0)))] H := hP
  have hD : va_D A [(h0, .inr (0, [.ref q0, .null, .null, .null, .null, .null, .null, .null, .null, .null, .null, .null, .int 0, .int 0, .int 0, .int 0])), (q0, .inl (k0, 24, .inl (fun _ => 0))), (q1, .inl (k1, 24, .inl (fun _ => 0)))] := hD
  have hK : va_K D vwCl [(k0, .int), (k1, .int)] s := hK
  refine W.widen (k := 2) (n := 48) (Nat.le_of_ble_eq_true rfl) (Nat.le_of_ble_eq_true rfl) ?_
  refine va_putF (D := D) (ci := 0) (v := .ref q1) (ty := .array .int) (C := RX0) (T := TX0) (N := 16) hx hb hts in_X0 tyX0 tyX0_ok nmX0 hown hK hP hD hS 0 rfl rfl 1 (by decide) (hts _ q29) (fun _ h9 => h9) rfl hin rfl (by decide +kernel) rfl rfl (Nat.le_of_ble_eq_true rfl) dX0_init_17 (fun H locs hP hD hS => ?_)
  have hP : va_P D vwCl [(h0, .inr (0, [.ref q0, .ref q1, .null, .null, .null, .null, .null, .null, .null, .null, .null, .null, .int 0, .int 0, .int 0, .int 0])), (q0, .inl (k0, 24, .inl (fun _ => 0))), (q1, .inl (k1, 24, .inl (fun _ => 0)))] H := hP
  have hD : va_D A [(h0, .inr (0, [.ref q0, .ref q1, .null, .null, .null, .null, .null, .null, .null, .null, .null, .null, .int 0, .int 0, .int 0, .int 0])), (q0, .inl (k0, 24, .inl (fun _ => 0))), (q1, .inl (k1, 24, .inl (fun _ => 0)))] := hD
  refine lv_aload_n hx hb dX0_init_20 rfl (lv_at hl 0 rfl) ?_
  refine lv_bipush (v := 24) hx hb dX0_init_21 (by decide) ?_
  refine va_newa (atype := .int) (ty := .int) (N' := 24) (a0 := (24, .inl (fun _ => 0))) hx hb (hts _ q77) rfl hK hP hD hS hA (fun _ => rfl) (by decide) (by decide +kernel) (by decide) (Nat.le_of_ble_eq_true rfl) (Nat.le_of_ble_eq_true rfl) dX0_init_23 (fun q2 k2 H hK hP hD hS => ?_)
  have hP : va_P D vwCl [(h0, .inr (0, [.ref q0, .ref q1, .null, .null, .null, .null, .null, .null, .null, .null, .null, .null, .int 0, .int 0, .int 0, .int 0])), (q0, .inl (k0, 24, .inl (fun _ => 0))), (q1, .inl (k1, 24, .inl (fun _ => 0))), (q2, .inl (k2, 24, .inl (fun _ => 0)))] H := hP
  have hD : va_D A [(h0, .inr (0, [.ref q0, .ref q1, .null, .null, .null, .null, .null, .null, .null, .null, .null, .null, .int 0, .int 0, .int 0, .int 0])), (q0, .inl (k0, 24, .inl (fun _ => 0))), (q1, .inl (k1, 24, .inl (fun _ => 0))), (q2, .inl (k2, 24, .inl (fun _ => 0)))] := hD
  have hK : va_K D vwCl [(k0, .int), (k1, .int), (k2, .int)] s := hK
  refine W.widen (k := 3) (n := 72) (Nat.le_of_ble_eq_true rfl) (Nat.le_of_ble_eq_true rfl) ?_
  refine va_putF (D := D) (ci := 0) (v := .ref q2) (ty := .array .int) (C := RX0) (T := TX0) (N := 16) hx hb hts in_X0 tyX0 tyX0_ok nmX0 hown hK hP hD hS 0 rfl rfl 2 (by decide) (hts _ q30) (fun _ h9 => h9) rfl hin rfl (by decide +kernel) rfl rfl (Nat.le_of_ble_eq_true rfl) dX0_init_25 (fun H locs hP hD hS => ?_)
  have hP : va_P D vwCl [(h0, .inr (0, [.ref q0, .ref q1, .ref q2, .null, .null, .null, .null, .null, .null, .null, .null, .null, .int 0, .int 0, .int 0, .int 0])), (q0, .inl (k0, 24, .inl (fun _ => 0))), (q1, .inl (k1, 24, .inl (fun _ => 0))), (q2, .inl (k2, 24, .inl (fun _ => 0)))] H := hP
  have hD : va_D A [(h0, .inr (0, [.ref q0, .ref q1, .ref q2, .null, .null, .null, .null, .null, .null, .null, .null, .null, .int 0, .int 0, .int 0, .int 0])), (q0, .inl (k0, 24, .inl (fun _ => 0))), (q1, .inl (k1, 24, .inl (fun _ => 0))), (q2, .inl (k2, 24, .inl (fun _ => 0)))] := hD
  refine lv_aload_n hx hb dX0_init_28 rfl (lv_at hl 0 rfl) ?_
  refine lv_bipush (v := 8) hx hb dX0_init_29 (by decide) ?_
  refine va_newa (atype := .int) (ty := .int) (N' := 8) (a0 := (8, .inl (fun _ => 0))) hx hb (hts _ q77) rfl hK hP hD hS hA (fun _ => rfl) (by decide) (by decide +kernel) (by decide) (Nat.le_of_ble_eq_true rfl) (Nat.le_of_ble_eq_true rfl) dX0_init_31 (fun q3 k3 H hK hP hD hS => ?_)
  have hP : va_P D vwCl [(h0, .inr (0, [.ref q0, .ref q1, .ref q2, .null, .null, .null, .null, .null, .null, .null, .null, .null, .int 0, .int 0, .int 0, .int 0])), (q0, .inl (k0, 24, .inl (fun _ => 0))), (q1, .inl (k1, 24, .inl (fun _ => 0))), (q2, .inl (k2, 24, .inl (fun _ => 0))), (q3, .inl (k3, 8, .inl (fun _ => 0)))] H := hP
  have hD : va_D A [(h0, .inr (0, [.ref q0, .ref q1, .ref q2, .null, .null, .null, .null, .null, .null, .null, .null, .null, .int 0, .int 0, .int 0, .int 0])), (q0, .inl (k0, 24, .inl (fun _ => 0))), (q1, .inl (k1, 24, .inl (fun _ => 0))), (q2, .inl (k2, 24, .inl (fun _ => 0))), (q3, .inl (k3, 8, .inl (fun _ => 0)))] := hD
  have hK : va_K D vwCl [(k0, .int), (k1, .int), (k2, .int), (k3, .int)] s := hK
  refine W.widen (k := 4) (n := 80) (Nat.le_of_ble_eq_true rfl) (Nat.le_of_ble_eq_true rfl) ?_
  refine va_putF (D := D) (ci := 0) (v := .ref q3) (ty := .array .int) (C := RX0) (T := TX0) (N := 16) hx hb hts in_X0 tyX0 tyX0_ok nmX0 hown hK hP hD hS 0 rfl rfl 3 (by decide) (hts _ q31) (fun _ h9 => h9) rfl hin rfl (by decide +kernel) rfl rfl (Nat.le_of_ble_eq_true rfl) dX0_init_33 (fun H locs hP hD hS => ?_)
  have hP : va_P D vwCl [(h0, .inr (0, [.ref q0, .ref q1, .ref q2, .ref q3, .null, .null, .null, .null, .null, .null, .null, .null, .int 0, .int 0, .int 0, .int 0])), (q0, .inl (k0, 24, .inl (fun _ => 0))), (q1, .inl (k1, 24, .inl (fun _ => 0))), (q2, .inl (k2, 24, .inl (fun _ => 0))), (q3, .inl (k3, 8, .inl (fun _ => 0)))] H := hP
  have hD : va_D A [(h0, .inr (0, [.ref q0, .ref q1, .ref q2, .ref q3, .null, .null, .null, .null, .null, .null, .null, .null, .int 0, .int 0, .int 0, .int 0])), (q0, .inl (k0, 24, .inl (fun _ => 0))), (q1, .inl (k1, 24, .inl (fun _ => 0))), (q2, .inl (k2, 24, .inl (fun _ => 0))), (q3, .inl (k3, 8, .inl (fun _ => 0)))] := hD
  refine lv_aload_n hx hb dX0_init_36 rfl (lv_at hl 0 rfl) ?_
  refine lv_bipush (v := 8) hx hb dX0_init_37 (by decide) ?_
  refine va_newa (atype := .int) (ty := .int) (N' := 8) (a0 := (8, .inl (fun _ => 0))) hx hb (hts _ q77) rfl hK hP hD hS hA (fun _ => rfl) (by decide) (by decide +kernel) (by decide) (Nat.le_of_ble_eq_true rfl) (Nat.le_of_ble_eq_true rfl) dX0_init_39 (fun q4 k4 H hK hP hD hS => ?_)
  have hP : va_P D vwCl [(h0, .inr (0, [.ref q0, .ref q1, .ref q2, .ref q3, .null, .null, .null, .null, .null, .null, .null, .null, .int 0, .int 0, .int 0, .int 0])), (q0, .inl (k0, 24, .inl (fun _ => 0))), (q1, .inl (k1, 24, .inl (fun _ => 0))), (q2, .inl (k2, 24, .inl (fun _ => 0))), (q3, .inl (k3, 8, .inl (fun _ => 0))), (q4, .inl (k4, 8, .inl (fun _ => 0)))] H := hP
  have hD : va_D A [(h0, .inr (0, [.ref q0, .ref q1, .ref q2, .ref q3, .null, .null, .null, .null, .null, .null, .null, .null, .int 0, .int 0, .int 0, .int 0])), (q0, .inl (k0, 24, .inl (fun _ => 0))), (q1, .inl (k1, 24, .inl (fun _ => 0))), (q2, .inl (k2, 24, .inl (fun _ => 0))), (q3, .inl (k3, 8, .inl (fun _ => 0))), (q4, .inl (k4, 8, .inl (fun _ => 0)))] := hD
  have hK : va_K D vwCl [(k0, .int), (k1, .int), (k2, .int), (k3, .int), (k4, .int)] s := hK
  refine W.widen (k := 5) (n := 88) (Nat.le_of_ble_eq_true rfl) (Nat.le_of_ble_eq_true rfl) ?_
  refine va_putF (D := D) (ci := 0) (v := .ref q4) (ty := .array .int) (C := RX0) (T := TX0) (N := 16) hx hb hts in_X0 tyX0 tyX0_ok nmX0 hown hK hP hD hS 0 rfl rfl 4 (by decide) (hts _ q32) (fun _ h9 => h9) rfl hin rfl (by decide +kernel) rfl rfl (Nat.le_of_ble_eq_true rfl) dX0_init_41 (fun H locs hP hD hS => ?_)
  have hP : va_P D vwCl [(h0, .inr (0, [.ref q0, .ref q1, .ref q2, .ref q3, .ref q4, .null, .null, .null, .null, .null, .null, .null, .int 0, .int 0, .int 0, .int 0])), (q0, .inl (k0, 24, .inl (fun _ => 0))), (q1, .inl (k1, 24, .inl (fun _ => 0))), (q2, .inl (k2, 24, .inl (fun _ => 0))), (q3, .inl (k3, 8, .inl (fun _ => 0))), (q4, .inl (k4, 8, .inl (fun _ => 0)))] H := hP
  have hD : va_D A [(h0, .inr (0, [.ref q0, .ref q1, .ref q2, .ref q3, .ref q4, .null, .null, .null, .null, .null, .null, .null, .int 0, .int 0, .int 0, .int 0])), (q0, .inl (k0, 24, .inl (fun _ => 0))), (q1, .inl (k1, 24, .inl (fun _ => 0))), (q2, .inl (k2, 24, .inl (fun _ => 0))), (q3, .inl (k3, 8, .inl (fun _ => 0))), (q4, .inl (k4, 8, .inl (fun _ => 0)))] := hD
  refine lv_aload_n hx hb dX0_init_44 rfl (lv_at hl 0 rfl) ?_
  refine lv_bipush (v := 12) hx hb dX0_init_45 (by decide) ?_
  refine va_newa (atype := .int) (ty := .int) (N' := 12) (a0 := (12, .inl (fun _ => 0))) hx hb (hts _ q77) rfl hK hP hD hS hA (fun _ => rfl) (by decide) (by decide +kernel) (by decide) (Nat.le_of_ble_eq_true rfl) (Nat.le_of_ble_eq_true rfl) dX0_init_47 (fun q5 k5 H hK hP hD hS => ?_)
  have hP : va_P D vwCl [(h0, .inr (0, [.ref q0, .ref q1, .ref q2, .ref q3, .ref q4, .null, .null, .null, .null, .null, .null, .null, .int 0, .int 0, .int 0, .int 0])), (q0, .inl (k0, 24, .inl (fun _ => 0))), (q1, .inl (k1, 24, .inl (fun _ => 0))), (q2, .inl (k2, 24, .inl (fun _ => 0))), (q3, .inl (k3, 8, .inl (fun _ => 0))), (q4, .inl (k4, 8, .inl (fun _ => 0))), (q5, .inl (k5, 12, .inl (fun _ => 0)))] H := hP
  have hD : va_D A [(h0, .inr (0, [.ref q0, .ref q1, .ref q2, .ref q3, .ref q4, .null, .null, .null, .null, .null, .null, .null, .int 0, .int 0, .int 0, .int 0])), (q0, .inl (k0, 24, .inl (fun _ => 0))), (q1, .inl (k1, 24, .inl (fun _ => 0))), (q2, .inl (k2, 24, .inl (fun _ => 0))), (q3, .inl (k3, 8, .inl (fun _ => 0))), (q4, .inl (k4, 8, .inl (fun _ => 0))), (q5, .inl (k5, 12, .inl (fun _ => 0)))] := hD
  have hK : va_K D vwCl [(k0, .int), (k1, .int), (k2, .int), (k3, .int), (k4, .int), (k5, .int)] s := hK
  refine W.widen (k := 6) (n := 100) (Nat.le_of_ble_eq_true rfl) (Nat.le_of_ble_eq_true rfl) ?_
  refine va_putF (D := D) (ci := 0) (v := .ref q5) (ty := .array .int) (C := RX0) (T := TX0) (N := 16) hx hb hts in_X0 tyX0 tyX0_ok nmX0 hown hK hP hD hS 0 rfl rfl 5 (by decide) (hts _ q33) (fun _ h9 => h9) rfl hin rfl (by decide +kernel) rfl rfl (Nat.le_of_ble_eq_true rfl) dX0_init_49 (fun H locs hP hD hS => ?_)
  have hP : va_P D vwCl [(h0, .inr (0, [.ref q0, .ref q1, .ref q2, .ref q3, .ref q4, .ref q5, .null, .null, .null, .null, .null, .null, .int 0, .int 0, .int 0, .int 0])), (q0, .inl (k0, 24, .inl (fun _ => 0))), (q1, .inl (k1, 24, .inl (fun _ => 0))), (q2, .inl (k2, 24, .inl (fun _ => 0))), (q3, .inl (k3, 8, .inl (fun _ => 0))), (q4, .inl (k4, 8, .inl (fun _ => 0))), (q5, .inl (k5, 12, .inl (fun _ => 0)))] H := hP
  have hD : va_D A [(h0, .inr (0, [.ref q0, .ref q1, .ref q2, .ref q3, .ref q4, .ref q5, .null, .null, .null, .null, .null, .null, .int 0, .int 0, .int 0, .int 0])), (q0, .inl (k0, 24, .inl (fun _ => 0))), (q1, .inl (k1, 24, .inl (fun _ => 0))), (q2, .inl (k2, 24, .inl (fun _ => 0))), (q3, .inl (k3, 8, .inl (fun _ => 0))), (q4, .inl (k4, 8, .inl (fun _ => 0))), (q5, .inl (k5, 12, .inl (fun _ => 0)))] := hD
  refine lv_aload_n hx hb dX0_init_52 rfl (lv_at hl 0 rfl) ?_
  refine lv_bipush (v := 12) hx hb dX0_init_53 (by decide) ?_
  refine va_newa (atype := .int) (ty := .int) (N' := 12) (a0 := (12, .inl (fun _ => 0))) hx hb (hts _ q77) rfl hK hP hD hS hA (fun _ => rfl) (by decide) (by decide +kernel) (by decide) (Nat.le_of_ble_eq_true rfl) (Nat.le_of_ble_eq_true rfl) dX0_init_55 (fun q6 k6 H hK hP hD hS => ?_)
  have hP : va_P D vwCl [(h0, .inr (0, [.ref q0, .ref q1, .ref q2, .ref q3, .ref q4, .ref q5, .null, .null, .null, .null, .null, .null, .int 0, .int 0, .int 0, .int 0])), (q0, .inl (k0, 24, .inl (fun _ => 0))), (q1, .inl (k1, 24, .inl (fun _ => 0))), (q2, .inl (k2, 24, .inl (fun _ => 0))), (q3, .inl (k3, 8, .inl (fun _ => 0))), (q4, .inl (k4, 8, .inl (fun _ => 0))), (q5, .inl (k5, 12, .inl (fun _ => 0))), (q6, .inl (k6, 12, .inl (fun _ => 0)))] H := hP
  have hD : va_D A [(h0, .inr (0, [.ref q0, .ref q1, .ref q2, .ref q3, .ref q4, .ref q5, .null, .null, .null, .null, .null, .null, .int 0, .int 0, .int 0, .int 0])), (q0, .inl (k0, 24, .inl (fun _ => 0))), (q1, .inl (k1, 24, .inl (fun _ => 0))), (q2, .inl (k2, 24, .inl (fun _ => 0))), (q3, .inl (k3, 8, .inl (fun _ => 0))), (q4, .inl (k4, 8, .inl (fun _ => 0))), (q5, .inl (k5, 12, .inl (fun _ => 0))), (q6, .inl (k6, 12, .inl (fun _ => 0)))] := hD
  have hK : va_K D vwCl [(k0, .int), (k1, .int), (k2, .int), (k3, .int), (k4, .int), (k5, .int), (k6, .int)] s := hK
  refine W.widen (k := 7) (n := 112) (Nat.le_of_ble_eq_true rfl) (Nat.le_of_ble_eq_true rfl) ?_
  refine va_putF (D := D) (ci := 0) (v := .ref q6) (ty := .array .int) (C := RX0) (T := TX0) (N := 16) hx hb hts in_X0 tyX0 tyX0_ok nmX0 hown hK hP hD hS 0 rfl rfl 6 (by decide) (hts _ q34) (fun _ h9 => h9) rfl hin rfl (by decide +kernel) rfl rfl (Nat.le_of_ble_eq_true rfl) dX0_init_57 (fun H locs hP hD hS => ?_)
  have hP : va_P D vwCl [(h0, .inr (0, [.ref q0, .ref q1, .ref q2, .ref q3, .ref q4, .ref q5, .ref q6, .null, .null, .null, .null, .null, .int 0, .int 0, .int 0, .int 0])), (q0, .inl (k0, 24, .inl (fun _ => 0))), (q1, .inl (k1, 24, .inl (fun _ => 0))), (q2, .inl (k2, 24, .inl (fun _ => 0))), (q3, .inl (k3, 8, .inl (fun _ => 0))), (q4, .inl (k4, 8, .inl (fun _ => 0))), (q5, .inl (k5, 12, .inl (fun _ => 0))), (q6, .inl (k6, 12, .inl (fun _ => 0)))] H := hP
  have hD : va_D A [(h0, .inr (0, [.ref q0, .ref q1, .ref q2, .ref q3, .ref q4, .ref q5, .ref q6, .null, .null, .null, .null, .null, .int 0, .int 0, .int 0, .int 0])), (q0, .inl (k0, 24, .inl (fun _ => 0))), (q1, .inl (k1, 24, .inl (fun _ => 0))), (q2, .inl (k2, 24, .inl (fun _ => 0))), (q3, .inl (k3, 8, .inl (fun _ => 0))), (q4, .inl (k4, 8, .inl (fun _ => 0))), (q5, .inl (k5, 12, .inl (fun _ => 0))), (q6, .inl (k6, 12, .inl (fun _ => 0)))] := hD
  refine lv_aload_n hx hb dX0_init_60 rfl (lv_at hl 0 rfl) ?_
  refine lv_bipush (v := 24) hx hb dX0_init_61 (by decide) ?_
  refine va_newa (atype := .int) (ty := .int) (N' := 24) (a0 := (24, .inl (fun _ => 0))) hx hb (hts _ q77) rfl hK hP hD hS hA (fun _ => rfl) (by decide) (by decide +kernel) (by decide) (Nat.le_of_ble_eq_true rfl) (Nat.le_of_ble_eq_true rfl) dX0_init_63 (fun q7 k7 H hK hP hD hS => ?_)
  have hP : va_P D vwCl [(h0, .inr (0, [.ref q0, .ref q1, .ref q2, .ref q3, .ref q4, .ref q5, .ref q6, .null, .null, .null, .null, .null, .int 0, .int 0, .int 0, .int 0])), (q0, .inl (k0, 24, .inl (fun _ => 0))), (q1, .inl (k1, 24, .inl (fun _ => 0))), (q2, .inl (k2, 24, .inl (fun _ => 0))), (q3, .inl (k3, 8, .inl (fun _ => 0))), (q4, .inl (k4, 8, .inl (fun _ => 0))), (q5, .inl (k5, 12, .inl (fun _ => 0))), (q6, .inl (k6, 12, .inl (fun _ => 0))), (q7, .inl (k7, 24, .inl (fun _ => 0)))] H := hP
  have hD : va_D A [(h0, .inr (0, [.ref q0, .ref q1, .ref q2, .ref q3, .ref q4, .ref q5, .ref q6, .null, .null, .null, .null, .null, .int 0, .int 0, .int 0, .int 0])), (q0, .inl (k0, 24, .inl (fun _ => 0))), (q1, .inl (k1, 24, .inl (fun _ => 0))), (q2, .inl (k2, 24, .inl (fun _ => 0))), (q3, .inl (k3, 8, .inl (fun _ => 0))), (q4, .inl (k4, 8, .inl (fun _ => 0))), (q5, .inl (k5, 12, .inl (fun _ => 0))), (q6, .inl (k6, 12, .inl (fun _ => 0))), (q7, .inl (k7, 24, .inl (fun _ => 0)))] := hD
  have hK : va_K D vwCl [(k0, .int), (k1, .int), (k2, .int), (k3, .int), (k4, .int), (k5, .int), (k6, .int), (k7, .int)] s := hK
  refine W.widen (k := 8) (n := 136) (Nat.le_of_ble_eq_true rfl) (Nat.le_of_ble_eq_true rfl) ?_
  refine va_putF (D := D) (ci := 0) (v := .ref q7) (ty := .array .int) (C := RX0) (T := TX0) (N := 16) hx hb hts in_X0 tyX0 tyX0_ok nmX0 hown hK hP hD hS 0 rfl rfl 7 (by decide) (hts _ q35) (fun _ h9 => h9) rfl hin rfl (by decide +kernel) rfl rfl (Nat.le_of_ble_eq_true rfl) dX0_init_65 (fun H locs hP hD hS => ?_)
  have hP : va_P D vwCl [(h0, .inr (0, [.ref q0, .ref q1, .ref q2, .ref q3, .ref q4, .ref q5, .ref q6, .ref q7, .null, .null, .null, .null, .int 0, .int 0, .int 0, .int 0])), (q0, .inl (k0, 24, .inl (fun _ => 0))), (q1, .inl (k1, 24, .inl (fun _ => 0))), (q2, .inl (k2, 24, .inl (fun _ => 0))), (q3, .inl (k3, 8, .inl (fun _ => 0))), (q4, .inl (k4, 8, .inl (fun _ => 0))), (q5, .inl (k5, 12, .inl (fun _ => 0))), (q6, .inl (k6, 12, .inl (fun _ => 0))), (q7, .inl (k7, 24, .inl (fun _ => 0)))] H := hP
  have hD : va_D A [(h0, .inr (0, [.ref q0, .ref q1, .ref q2, .ref q3, .ref q4, .ref q5, .ref q6, .ref q7, .null, .null, .null, .null, .int 0, .int 0, .int 0, .int 0])), (q0, .inl (k0, 24, .inl (fun _ => 0))), (q1, .inl (k1, 24, .inl (fun _ => 0))), (q2, .inl (k2, 24, .inl (fun _ => 0))), (q3, .inl (k3, 8, .inl (fun _ => 0))), (q4, .inl (k4, 8, .inl (fun _ => 0))), (q5, .inl (k5, 12, .inl (fun _ => 0))), (q6, .inl (k6, 12, .inl (fun _ => 0))), (q7, .inl (k7, 24, .inl (fun _ => 0)))] := hD
  refine lv_aload_n hx hb dX0_init_68 rfl (lv_at hl 0 rfl) ?_
  refine lv_bipush (v := 24) hx hb dX0_init_69 (by decide) ?_
  refine va_newa (atype := .int) (ty := .int) (N' := 24) (a0 := (24, .inl (fun _ => 0))) hx hb (hts _ q77) rfl hK hP hD hS hA (fun _ => rfl) (by decide) (by decide +kernel) (by decide) (Nat.le_of_ble_eq_true rfl) (Nat.le_of_ble_eq_true rfl) dX0_init_71 (fun q8 k8 H hK hP hD hS => ?_)
  have hP : va_P D vwCl [(h0, .inr (0, [.ref q0, .ref q1, .ref q2, .ref q3, .ref q4, .ref q5, .ref q6, .ref q7, .null, .null, .null, .null, .int 0, .int 0, .int 0, .int 0])), (q0, .inl (k0, 24, .inl (fun _ => 0))), (q1, .inl (k1, 24, .inl (fun _ => 0))), (q2, .inl (k2, 24, .inl (fun _ => 0))), (q3, .inl (k3, 8, .inl (fun _ => 0))), (q4, .inl (k4, 8, .inl (fun _ => 0))), (q5, .inl (k5, 12, .inl (fun _ => 0))), (q6, .inl (k6, 12, .inl (fun _ => 0))), (q7, .inl (k7, 24, .inl (fun _ => 0))), (q8, .inl (k8, 24, .inl (fun _ => 0)))] H := hP
  have hD : va_D A [(h0, .inr (0, [.ref q0, .ref q1, .ref q2, .ref q3, .ref q4, .ref q5, .ref q6, .ref q7, .null, .null, .null, .null, .int 0, .int 0, .int 0, .int 0])), (q0, .inl (k0, 24, .inl (fun _ => 0))), (q1, .inl (k1, 24, .inl (fun _ => 0))), (q2, .inl (k2, 24, .inl (fun _ => 0))), (q3, .inl (k3, 8, .inl (fun _ => 0))), (q4, .inl (k4, 8, .inl (fun _ => 0))), (q5, .inl (k5, 12, .inl (fun _ => 0))), (q6, .inl (k6, 12, .inl (fun _ => 0))), (q7, .inl (k7, 24, .inl (fun _ => 0))), (q8, .inl (k8, 24, .inl (fun _ => 0)))] := hD
  have hK : va_K D vwCl [(k0, .int), (k1, .int), (k2, .int), (k3, .int), (k4, .int), (k5, .int), (k6, .int), (k7, .int), (k8, .int)] s := hK
  refine W.widen (k := 9) (n := 160) (Nat.le_of_ble_eq_true rfl) (Nat.le_of_ble_eq_true rfl) ?_
  refine va_putF (D := D) (ci := 0) (v := .ref q8) (ty := .array .int) (C := RX0) (T := TX0) (N := 16) hx hb hts in_X0 tyX0 tyX0_ok nmX0 hown hK hP hD hS 0 rfl rfl 8 (by decide) (hts _ q36) (fun _ h9 => h9) rfl hin rfl (by decide +kernel) rfl rfl (Nat.le_of_ble_eq_true rfl) dX0_init_73 (fun H locs hP hD hS => ?_)
  have hP : va_P D vwCl [(h0, .inr (0, [.ref q0, .ref q1, .ref q2, .ref q3, .ref q4, .ref q5, .ref q6, .ref q7, .ref q8, .null, .null, .null, .int 0, .int 0, .int 0, .int 0])), (q0, .inl (k0, 24, .inl (fun _ => 0))), (q1, .inl (k1, 24, .inl (fun _ => 0))), (q2, .inl (k2, 24, .inl (fun _ => 0))), (q3, .inl (k3, 8, .inl (fun _ => 0))), (q4, .inl (k4, 8, .inl (fun _ => 0))), (q5, .inl (k5, 12, .inl (fun _ => 0))), (q6, .inl (k6, 12, .inl (fun _ => 0))), (q7, .inl (k7, 24, .inl (fun _ => 0))), (q8, .inl (k8, 24, .inl (fun _ => 0)))] H := hP
  have hD : va_D A [(h0, .inr (0, [.ref q0, .ref q1, .ref q2, .ref q3, .ref q4, .ref q5, .ref q6, .ref q7, .ref q8, .null, .null, .null, .int 0, .int 0, .int 0, .int 0])), (q0, .inl (k0, 24, .inl (fun _ => 0))), (q1, .inl (k1, 24, .inl (fun _ => 0))), (q2, .inl (k2, 24, .inl (fun _ => 0))), (q3, .inl (k3, 8, .inl (fun _ => 0))), (q4, .inl (k4, 8, .inl (fun _ => 0))), (q5, .inl (k5, 12, .inl (fun _ => 0))), (q6, .inl (k6, 12, .inl (fun _ => 0))), (q7, .inl (k7, 24, .inl (fun _ => 0))), (q8, .inl (k8, 24, .inl (fun _ => 0)))] := hD
  refine lv_aload_n hx hb dX0_init_76 rfl (lv_at hl 0 rfl) ?_
  refine lv_bipush (v := 24) hx hb dX0_init_77 (by decide) ?_
  refine va_newa (atype := .int) (ty := .int) (N' := 24) (a0 := (24, .inl (fun _ => 0))) hx hb (hts _ q77) rfl hK hP hD hS hA (fun _ => rfl) (by decide) (by decide +kernel) (by decide) (Nat.le_of_ble_eq_true rfl) (Nat.le_of_ble_eq_true rfl) dX0_init_79 (fun q9 k9 H hK hP hD hS => ?_)
  have hP : va_P D vwCl [(h0, .inr (0, [.ref q0, .ref q1, .ref q2, .ref q3, .ref q4, .ref q5, .ref q6, .ref q7, .ref q8, .null, .null, .null, .int 0, .int 0, .int 0, .int 0])), (q0, .inl (k0, 24, .inl (fun _ => 0))), (q1, .inl (k1, 24, .inl (fun _ => 0))), (q2, .inl (k2, 24, .inl (fun _ => 0))), (q3, .inl (k3, 8, .inl (fun _ => 0))), (q4, .inl (k4, 8, .inl (fun _ => 0))), (q5, .inl (k5, 12, .inl (fun _ => 0))), (q6, .inl (k6, 12, .inl (fun _ => 0))), (q7, .inl (k7, 24, .inl (fun _ => 0))), (q8, .inl (k8, 24, .inl (fun _ => 0))), (q9, .inl (k9, 24, .inl (fun _ => 0)))] H := hP
  have hD : va_D A [(h0, .inr (0, [.ref q0, .ref q1, .ref q2, .ref q3, .ref q4, .ref q5, .ref q6, .ref q7, .ref q8, .null, .null, .null, .int 0, .int 0, .int 0, .int 0])), (q0, .inl (k0, 24, .inl (fun _ => 0))), (q1, .inl (k1, 24, .inl (fun _ => 0))), (q2, .inl (k2, 24, .inl (fun _ => 0))), (q3, .inl (k3, 8, .inl (fun _ => 0))), (q4, .inl (k4, 8, .inl (fun _ => 0))), (q5, .inl (k5, 12, .inl (fun _ => 0))), (q6, .inl (k6, 12, .inl (fun _ => 0))), (q7, .inl (k7, 24, .inl (fun _ => 0))), (q8, .inl (k8, 24, .inl (fun _ => 0))), (q9, .inl (k9, 24, .inl (fun _ => 0)))] := hD
  have hK : va_K D vwCl [(k0, .int), (k1, .int), (k2, .int), (k3, .int), (k4, .int), (k5, .int), (k6, .int), (k7, .int), (k8, .int), (k9, .int)] s := hK
  refine W.widen (k := 10) (n := 184) (Nat.le_of_ble_eq_true rfl) (Nat.le_of_ble_eq_true rfl) ?_
  refine va_putF (D := D) (ci := 0) (v := .ref q9) (ty := .array .int) (C := RX0) (T := TX0) (N := 16) hx hb hts in_X0 tyX0 tyX0_ok nmX0 hown hK hP hD hS 0 rfl rfl 9 (by decide) (hts _ q37) (fun _ h9 => h9) rfl hin rfl (by decide +kernel) rfl rfl (Nat.le_of_ble_eq_true rfl) dX0_init_81 (fun H locs hP hD hS => ?_)
  have hP : va_P D vwCl [(h0, .inr (0, [.ref q0, .ref q1, .ref q2, .ref q3, .ref q4, .ref q5, .ref q6, .ref q7, .ref q8, .ref q9, .null, .null, .int 0, .int 0, .int 0, .int 0])), (q0, .inl (k0, 24, .inl (fun _ => 0))), (q1, .inl (k1, 24, .inl (fun _ => 0))), (q2, .inl (k2, 24, .inl (fun _ => 0))), (q3, .inl (k3, 8, .inl (fun _ => 0))), (q4, .inl (k4, 8, .inl (fun _ => 0))), (q5, .inl (k5, 12, .inl (fun _ => 0))), (q6, .inl (k6, 12, .inl (fun _ => 0))), (q7, .inl (k7, 24, .inl (fun _ => 0))), (q8, .inl (k8, 24, .inl (fun _ => 0))), (q9, .inl (k9, 24, .inl (fun _ => 0)))] H := hP
  have hD : va_D A [(h0, .inr (0, [.ref q0, .ref q1, .ref q2, .ref q3, .ref q4, .ref q5, .ref q6, .ref q7, .ref q8, .ref q9, .null, .null, .int 0, .int 0, .int 0, .int 0])), (q0, .inl (k0, 24, .inl (fun _ => 0))), (q1, .inl (k1, 24, .inl (fun _ => 0))), (q2, .inl (k2, 24, .inl (fun _ => 0))), (q3, .inl (k3, 8, .inl (fun _ => 0))), (q4, .inl (k4, 8, .inl (fun _ => 0))), (q5, .inl (k5, 12, .inl (fun _ => 0))), (q6, .inl (k6, 12, .inl (fun _ => 0))), (q7, .inl (k7, 24, .inl (fun _ => 0))), (q8, .inl (k8, 24, .inl (fun _ => 0))), (q9, .inl (k9, 24, .inl (fun _ => 0)))] := hD
  refine lv_aload_n hx hb dX0_init_84 rfl (lv_at hl 0 rfl) ?_
  refine lv_bipush (v := 24) hx hb dX0_init_85 (by decide) ?_
  refine va_newa (atype := .boolean) (ty := .boolean) (N' := 24) (a0 := (24, .inl (fun _ => 0))) hx hb (hts _ q78) rfl hK hP hD hS hA (fun _ => rfl) (by decide) (by decide +kernel) (by decide) (Nat.le_of_ble_eq_true rfl) (Nat.le_of_ble_eq_true rfl) dX0_init_87 (fun q10 k10 H hK hP hD hS => ?_)
  have hP : va_P D vwCl [(h0, .inr (0, [.ref q0, .ref q1, .ref q2, .ref q3, .ref q4, .ref q5, .ref q6, .ref q7, .ref q8, .ref q9, .null, .null, .int 0, .int 0, .int 0, .int 0])), (q0, .inl (k0, 24, .inl (fun _ => 0))), (q1, .inl (k1, 24, .inl (fun _ => 0))), (q2, .inl (k2, 24, .inl (fun _ => 0))), (q3, .inl (k3, 8, .inl (fun _ => 0))), (q4, .inl (k4, 8, .inl (fun _ => 0))), (q5, .inl (k5, 12, .inl (fun _ => 0))), (q6, .inl (k6, 12, .inl (fun _ => 0))), (q7, .inl (k7, 24, .inl (fun _ => 0))), (q8, .inl (k8, 24, .inl (fun _ => 0))), (q9, .inl (k9, 24, .inl (fun _ => 0))), (q10, .inl (k10, 24, .inl (fun _ => 0)))] H := hP
  have hD : va_D A [(h0, .inr (0, [.ref q0, .ref q1, .ref q2, .ref q3, .ref q4, .ref q5, .ref q6, .ref q7, .ref q8, .ref q9, .null, .null, .int 0, .int 0, .int 0, .int 0])), (q0, .inl (k0, 24, .inl (fun _ => 0))), (q1, .inl (k1, 24, .inl (fun _ => 0))), (q2, .inl (k2, 24, .inl (fun _ => 0))), (q3, .inl (k3, 8, .inl (fun _ => 0))), (q4, .inl (k4, 8, .inl (fun _ => 0))), (q5, .inl (k5, 12, .inl (fun _ => 0))), (q6, .inl (k6, 12, .inl (fun _ => 0))), (q7, .inl (k7, 24, .inl (fun _ => 0))), (q8, .inl (k8, 24, .inl (fun _ => 0))), (q9, .inl (k9, 24, .inl (fun _ => 0))), (q10, .inl (k10, 24, .inl (fun _ => 0)))] := hD
  have hK : va_K D vwCl [(k0, .int), (k1, .int), (k2, .int), (k3, .int), (k4, .int), (k5, .int), (k6, .int), (k7, .int), (k8, .int), (k9, .int), (k10, .boolean)] s := hK
  refine W.widen (k := 11) (n := 208) (Nat.le_of_ble_eq_true rfl) (Nat.le_of_ble_eq_true rfl) ?_
  refine va_putF (D := D) (ci := 0) (v := .ref q10) (ty := .array .boolean) (C := RX0) (T := TX0) (N := 16) hx hb hts in_X0 tyX0 tyX0_ok nmX0 hown hK hP hD hS 0 rfl rfl 10 (by decide) (hts _ q38) (fun _ h9 => h9) rfl hin rfl (by decide +kernel) rfl rfl (Nat.le_of_ble_eq_true rfl) dX0_init_89 (fun H locs hP hD hS => ?_)
  have hP : va_P D vwCl [(h0, .inr (0, [.ref q0, .ref q1, .ref q2, .ref q3, .ref q4, .ref q5, .ref q6, .ref q7, .ref q8, .ref q9, .ref q10, .null, .int 0, .int 0, .int 0, .int 0])), (q0, .inl (k0, 24, .inl (fun _ => 0))), (q1, .inl (k1, 24, .inl (fun _ => 0))), (q2, .inl (k2, 24, .inl (fun _ => 0))), (q3, .inl (k3, 8, .inl (fun _ => 0))), (q4, .inl (k4, 8, .inl (fun _ => 0))), (q5, .inl (k5, 12, .inl (fun _ => 0))), (q6, .inl (k6, 12, .inl (fun _ => 0))), (q7, .inl (k7, 24, .inl (fun _ => 0))), (q8, .inl (k8, 24, .inl (fun _ => 0))), (q9, .inl (k9, 24, .inl (fun _ => 0))), (q10, .inl (k10, 24, .inl (fun _ => 0)))] H := hP
  have hD : va_D A [(h0, .inr (0, [.ref q0, .ref q1, .ref q2, .ref q3, .ref q4, .ref q5, .ref q6, .ref q7, .ref q8, .ref q9, .ref q10, .null, .int 0, .int 0, .int 0, .int 0])), (q0, .inl (k0, 24, .inl (fun _ => 0))), (q1, .inl (k1, 24, .inl (fun _ => 0))), (q2, .inl (k2, 24, .inl (fun _ => 0))), (q3, .inl (k3, 8, .inl (fun _ => 0))), (q4, .inl (k4, 8, .inl (fun _ => 0))), (q5, .inl (k5, 12, .inl (fun _ => 0))), (q6, .inl (k6, 12, .inl (fun _ => 0))), (q7, .inl (k7, 24, .inl (fun _ => 0))), (q8, .inl (k8, 24, .inl (fun _ => 0))), (q9, .inl (k9, 24, .inl (fun _ => 0))), (q10, .inl (k10, 24, .inl (fun _ => 0)))] := hD
  refine lv_aload_n hx hb dX0_init_92 rfl (lv_at hl 0 rfl) ?_
  refine lv_iconst (v := 4) hx hb dX0_init_93 (by decide) ?_
  refine va_newa (atype := .int) (ty := .int) (N' := 4) (a0 := (4, .inl (fun _ => 0))) hx hb (hts _ q77) rfl hK hP hD hS hA (fun _ => rfl) (by decide) (by decide +kernel) (by decide) (Nat.le_of_ble_eq_true rfl) (Nat.le_of_ble_eq_true rfl) dX0_init_94 (fun q11 k11 H hK hP hD hS => ?_)
  have hP : va_P D vwCl [(h0, .inr (0, [.ref q0, .ref q1, .ref q2, .ref q3, .ref q4, .ref q5, .ref q6, .ref q7, .ref q8, .ref q9, .ref q10, .null, .int 0, .int 0, .int 0, .int 0])), (q0, .inl (k0, 24, .inl (fun _ => 0))), (q1, .inl (k1, 24, .inl (fun _ => 0))), (q2, .inl (k2, 24, .inl (fun _ => 0))), (q3, .inl (k3, 8, .inl (fun _ => 0))), (q4, .inl (k4, 8, .inl (fun _ => 0))), (q5, .inl (k5, 12, .inl (fun _ => 0))), (q6, .inl (k6, 12, .inl (fun _ => 0))), (q7, .inl (k7, 24, .inl (fun _ => 0))), (q8, .inl (k8, 24, .inl (fun _ => 0))), (q9, .inl (k9, 24, .inl (fun _ => 0))), (q10, .inl (k10, 24, .inl (fun _ => 0))), (q11, .inl (k11, 4, .inl (fun _ => 0)))] H := hP
  have hD : va_D A [(h0, .inr (0, [.ref q0, .ref q1, .ref q2, .ref q3, .ref q4, .ref q5, .ref q6, .ref q7, .ref q8, .ref q9, .ref q10, .null, .int 0, .int 0, .int 0, .int 0])), (q0, .inl (k0, 24, .inl (fun _ => 0))), (q1, .inl (k1, 24, .inl (fun _ => 0))), (q2, .inl (k2, 24, .inl (fun _ => 0))), (q3, .inl (k3, 8, .inl (fun _ => 0))), (q4, .inl (k4, 8, .inl (fun _ => 0))), (q5, .inl (k5, 12, .inl (fun _ => 0))), (q6, .inl (k6, 12, .inl (fun _ => 0))), (q7, .inl (k7, 24, .inl (fun _ => 0))), (q8, .inl (k8, 24, .inl (fun _ => 0))), (q9, .inl (k9, 24, .inl (fun _ => 0))), (q10, .inl (k10, 24, .inl (fun _ => 0))), (q11, .inl (k11, 4, .inl (fun _ => 0)))] := hD
  have hK : va_K D vwCl [(k0, .int), (k1, .int), (k2, .int), (k3, .int), (k4, .int), (k5, .int), (k6, .int), (k7, .int), (k8, .int), (k9, .int), (k10, .boolean), (k11, .int)] s := hK
  refine W.widen (k := 12) (n := 212) (Nat.le_of_ble_eq_true rfl) (Nat.le_of_ble_eq_true rfl) ?_
  refine va_putF (D := D) (ci := 0) (v := .ref q11) (ty := .array .int) (C := RX0) (T := TX0) (N := 16) hx hb hts in_X0 tyX0 tyX0_ok nmX0 hown hK hP hD hS 0 rfl rfl 11 (by decide) (hts _ q39) (fun _ h9 => h9) rfl hin rfl (by decide +kernel) rfl rfl (Nat.le_of_ble_eq_true rfl) dX0_init_96 (fun H locs hP hD hS => ?_)
  have hP : va_P D vwCl [(h0, .inr (0, [.ref q0, .ref q1, .ref q2, .ref q3, .ref q4, .ref q5, .ref q6, .ref q7, .ref q8, .ref q9, .ref q10, .ref q11, .int 0, .int 0, .int 0, .int 0])), (q0, .inl (k0, 24, .inl (fun _ => 0))), (q1, .inl (k1, 24, .inl (fun _ => 0))), (q2, .inl (k2, 24, .inl (fun _ => 0))), (q3, .inl (k3, 8, .inl (fun _ => 0))), (q4, .inl (k4, 8, .inl (fun _ => 0))), (q5, .inl (k5, 12, .inl (fun _ => 0))), (q6, .inl (k6, 12, .inl (fun _ => 0))), (q7, .inl (k7, 24, .inl (fun _ => 0))), (q8, .inl (k8, 24, .inl (fun _ => 0))), (q9, .inl (k9, 24, .inl (fun _ => 0))), (q10, .inl (k10, 24, .inl (fun _ => 0))), (q11, .inl (k11, 4, .inl (fun _ => 0)))] H := hP
  have hD : va_D A [(h0, .inr (0, [.ref q0, .ref q1, .ref q2, .ref q3, .ref q4, .ref q5, .ref q6, .ref q7, .ref q8, .ref q9, .ref q10, .ref q11, .int 0, .int 0, .int 0, .int 0])), (q0, .inl (k0, 24, .inl (fun _ => 0))), (q1, .inl (k1, 24, .inl (fun _ => 0))), (q2, .inl (k2, 24, .inl (fun _ => 0))), (q3, .inl (k3, 8, .inl (fun _ => 0))), (q4, .inl (k4, 8, .inl (fun _ => 0))), (q5, .inl (k5, 12, .inl (fun _ => 0))), (q6, .inl (k6, 12, .inl (fun _ => 0))), (q7, .inl (k7, 24, .inl (fun _ => 0))), (q8, .inl (k8, 24, .inl (fun _ => 0))), (q9, .inl (k9, 24, .inl (fun _ => 0))), (q10, .inl (k10, 24, .inl (fun _ => 0))), (q11, .inl (k11, 4, .inl (fun _ => 0)))] := hD
  refine lv_aload_n hx hb dX0_init_99 rfl (lv_at hl 0 rfl) ?_
  refine lv_iconst (v := 0) hx hb dX0_init_100 (by decide) ?_
  refine va_put (D := D) (ci := 0) (v := .int 0) (ty := .boolean) (C := RX0) (T := TX0) (N := 16) hx hb hts in_X0 tyX0 tyX0_ok nmX0 hown hK hP hD hS 0 rfl rfl 15 (by decide) (hts _ q43) (fun _ h9 => h9) rfl (by decide +kernel) rfl rfl (Nat.le_of_ble_eq_true rfl) dX0_init_101 (fun H locs hP hD hS => ?_)
  have hP : va_P D vwCl [(h0, .inr (0, [.ref q0, .ref q1, .ref q2, .ref q3, .ref q4, .ref q5, .ref q6, .ref q7, .ref q8, .ref q9, .ref q10, .ref q11, .int 0, .int 0, .int 0, .int 0])), (q0, .inl (k0, 24, .inl (fun _ => 0))), (q1, .inl (k1, 24, .inl (fun _ => 0))), (q2, .inl (k2, 24, .inl (fun _ => 0))), (q3, .inl (k3, 8, .inl (fun _ => 0))), (q4, .inl (k4, 8, .inl (fun _ => 0))), (q5, .inl (k5, 12, .inl (fun _ => 0))), (q6, .inl (k6, 12, .inl (fun _ => 0))), (q7, .inl (k7, 24, .inl (fun _ => 0))), (q8, .inl (k8, 24, .inl (fun _ => 0))), (q9, .inl (k9, 24, .inl (fun _ => 0))), (q10, .inl (k10, 24, .inl (fun _ => 0))), (q11, .inl (k11, 4, .inl (fun _ => 0)))] H := hP
  have hD : va_D A [(h0, .inr (0, [.ref q0, .ref q1, .ref q2, .ref q3, .ref q4, .ref q5, .ref q6, .ref q7, .ref q8, .ref q9, .ref q10, .ref q11, .int 0, .int 0, .int 0, .int 0])), (q0, .inl (k0, 24, .inl (fun _ => 0))), (q1, .inl (k1, 24, .inl (fun _ => 0))), (q2, .inl (k2, 24, .inl (fun _ => 0))), (q3, .inl (k3, 8, .inl (fun _ => 0))), (q4, .inl (k4, 8, .inl (fun _ => 0))), (q5, .inl (k5, 12, .inl (fun _ => 0))), (q6, .inl (k6, 12, .inl (fun _ => 0))), (q7, .inl (k7, 24, .inl (fun _ => 0))), (q8, .inl (k8, 24, .inl (fun _ => 0))), (q9, .inl (k9, 24, .inl (fun _ => 0))), (q10, .inl (k10, 24, .inl (fun _ => 0))), (q11, .inl (k11, 4, .inl (fun _ => 0)))] := hD
  exact W.vret hx hb hr (fun t ht hW => ⟨⟨(fun i => [q0, q1, q2, q3, q4, q5, q6, q7, q8, q9, q10, q11, 0, 0, 0, 0, h0].getD i 0, fun i => [k0, k1, k2, k3, k4, k5, k6, k7, k8, k9, k10, k11].getD i k0), rfl, trivial, rfl, by rw [ht]; exact hP, va_K.moved hW.alike hK, hD⟩, hS.F ht⟩) hS.2.2 dX0_init_104
abbrev tzn1 : List Value := [.int 0, .null, .null, .null, .int 0, .null, .null, .int 0, .null, .null, .null, .null, .null, .null]
/-- what a constructor leaves: the whole world, every place 0 -/
def tzBI1 (D : va_G) (A : Nat → Prop) (h0 : Nat) (q : (Nat → Nat) × (Nat → ClassId)) (t : State) : Prop := q.1 14 = h0 ∧ va_P D vwCl (wX1 q.1 q.2 tz0) t.heap ∧ va_K D vwCl (tX1 q.2) t ∧ va_D A (wX1 q.1 q.2 tz0)
set_option maxHeartbeats 4000000 in
set_option maxRecDepth 100000 in
theorem kX1_init (l : Launch) (D : va_G) (h0 sz : Nat) : Met l yX1_init (ws_ yX1_init cX1_init 1 none) ({ frames := 1, cells := 11, slots := 188, locals := 12 }) (va_Pc [.ref h0] (fun U => U.heap.size = sz ∧ va_P D vwCl [(h0, .inr (1, tzn1))] U.heap ∧ va_K D vwCl [] U ∧ va_D (fun _ => True) [(h0, .inr (1, tzn1))])) (va_Qv (fun _ : (Nat → Nat) × (Nat → ClassId) => True) (tzBI1 D (va_A [(h0, .inr (1, tzn1))] sz) h0) (va_A [(h0, .inr (1, tzn1))] sz)) 11 188 (va_A [(h0, .inr (1, tzn1))] sz) := by
  refine Met.ofW (cc := cX1_init) (maxL := 1) (ret := none) (by decide) rfl ?_
  intro p e s m args below meth cd s₁ B hml hv
  obtain ⟨rfl, hsz, hP, hK, hD0⟩ := hv
  have hx := B.exec
  have hb := B.bytes
  have hr := B.returns
  have hts := atoms_spec (ws := ws_ yX1_init cX1_init 1 none) B.pre
  have hts : ∀ w ∈ lw_all, w.before _ s = true := fun w h => hts w (List.mem_cons_of_mem _ h)
  have hown : s.vm.findClass RX1 = some m.cls := findClass_of_methodNamed B.named
  have hlocks := B.notSynchronized
  have hin : meth.name = "<init>" := (name_of_methodNamed B.named B.method).1
  subst hsz
  have hD := hD0.self (sz := s.heap.size)
  generalize hAe : va_A [(h0, .inr (1, tzn1))] s.heap.size = A at hD ⊢
  have hA : ∀ q : Nat, s.heap.size ≤ q → A q := fun q h => by rw [← hAe]; exact Or.inr h
  have hS : va_S A s.heap s.heap [] := va_S.rf
  have hl := lv_entry ([.ref h0]) (n := 1) (Nat.le_of_ble_eq_true rfl)
  rw [lg_entry_eq]
  generalize (lg_sl ([.ref h0]) ++ List.replicate (1 - (lg_sl ([.ref h0])).length) Slot.unset).toArray = ls at hl ⊢
  have hl : lv_has ls 1 [(0, .ref h0)] := hl
  refine lv_aload_n hx hb dX1_init_0 rfl (lv_at hl 0 rfl) ?_
  refine W.objInit hx hb hown (hts _ q217) (hts _ q26) (hts _ q27) rfl (by rw [hml]; exact hl.1) rfl dX1_init_1 (Nat.le_of_ble_eq_true rfl) (Nat.le_of_ble_eq_true rfl) ?_
  refine W.eq (g2 := F0 m 4 ls []) rfl ?_
  refine lv_aload_n hx hb dX1_init_4 rfl (lv_at hl 0 rfl) ?_
  refine lv_bipush (v := 24) hx hb dX1_init_5 (by decide) ?_
  refine va_newa (atype := .int) (ty := .int) (N' := 24) (a0 := (24, .inl (fun _ => 0))) hx hb (hts _ q77) rfl hK hP hD hS hA (fun _ => rfl) (by decide) (by decide +kernel) (by decide) (Nat.le_of_ble_eq_true rfl) (Nat.le_of_ble_eq_true rfl) dX1_init_7 (fun q0 k0 H hK hP hD hS => ?_)
  have hP : va_P D vwCl [(h0, .inr (1, [.int 0, .null, .null, .null, .int 0, .null, .null, .int 0, .null, .null, .null, .null, .null, .null])), (q0, .inl (k0, 24, .inl (fun _ => 0)))] H := hP
  have hD : va_D A [(h0, .inr (1, [.int 0, .null, .null, .null, .int 0, .null, .null, .int 0, .null, .null, .null, .null, .null, .null])), (q0, .inl (k0, 24, .inl (fun _ => 0)))] := hD
  have hK : va_K D vwCl [(k0, .int)] s := hK
  refine W.widen (k := 1) (n := 24) (Nat.le_of_ble_eq_true rfl) (Nat.le_of_ble_eq_true rfl) ?_
  refine va_put (D := D) (ci := 1) (v := .ref q0) (ty := .array .int) (C := RX1) (T := TX1) (N := 14) hx hb hts in_X1 tyX1 tyX1_ok nmX1 hown hK hP hD hS 0 rfl rfl 1 (by decide) (hts _ q219) (fun _ h9 => h9) rfl (by decide +kernel) rfl rfl (Nat.le_of_ble_eq_true rfl) dX1_init_9 (fun H locs hP hD hS => ?_)
  have hP : va_P D vwCl [(h0, .inr (1, [.int 0, .ref q0, .null, .null, .int 0, .null, .null, .int 0, .null, .null, .null, .null, .null, .null])), (q0, .inl (k0, 24, .inl (fun _ => 0)))] H := hP
  have hD : va_D A [(h0, .inr (1, [.int 0, .ref q0, .null, .null, .int 0, .null, .null, .int 0, .null, .null, .null, .null, .null, .null])), (q0, .inl (k0, 24, .inl (fun _ => 0)))] := hD
  refine lv_aload_n hx hb dX1_init_12 rfl (lv_at hl 0 rfl) ?_
  refine lv_bipush (v := 24) hx hb dX1_init_13 (by decide) ?_
  refine va_newa (atype := .int) (ty := .int) (N' := 24) (a0 := (24, .inl (fun _ => 0))) hx hb (hts _ q77) rfl hK hP hD hS hA (fun _ => rfl) (by decide) (by decide +kernel) (by decide) (Nat.le_of_ble_eq_true rfl) (Nat.le_of_ble_eq_true rfl) dX1_init_15 (fun q1 k1 H hK hP hD hS => ?_)
  have hP : va_P D vwCl [(h0, .inr (1, [.int 0, .ref q0, .null, .null, .int 0, .null, .null, .int 0, .null, .null, .null, .null, .null, .null])), (q0, .inl (k0, 24, .inl (fun _ => 0))), (q1, .inl (k1, 24, .inl (fun _ => 0)))] H := hP
  have hD : va_D A [(h0, .inr (1, [.int 0, .ref q0, .null, .null, .int 0, .null, .null, .int 0, .null, .null, .null, .null, .null, .null])), (q0, .inl (k0, 24, .inl (fun _ => 0))), (q1, .inl (k1, 24, .inl (fun _ => 0)))] := hD
  have hK : va_K D vwCl [(k0, .int), (k1, .int)] s := hK
  refine W.widen (k := 2) (n := 48) (Nat.le_of_ble_eq_true rfl) (Nat.le_of_ble_eq_true rfl) ?_
  refine va_put (D := D) (ci := 1) (v := .ref q1) (ty := .array .int) (C := RX1) (T := TX1) (N := 14) hx hb hts in_X1 tyX1 tyX1_ok nmX1 hown hK hP hD hS 0 rfl rfl 2 (by decide) (hts _ q220) (fun _ h9 => h9) rfl (by decide +kernel) rfl rfl (Nat.le_of_ble_eq_true rfl) dX1_init_17 (fun H locs hP hD hS => ?_)
  have hP : va_P D vwCl [(h0, .inr (1, [.int 0, .ref q0, .ref q1, .null, .int 0, .null, .null, .int 0, .null, .null, .null, .null, .null, .null])), (q0, .inl (k0, 24, .inl (fun _ => 0))), (q1, .inl (k1, 24, .inl (fun _ => 0)))] H := hP
  have hD : va_D A [(h0, .inr (1, [.int 0, .ref q0, .ref q1, .null, .int 0, .null, .null, .int 0, .null, .null, .null, .null, .null, .null])), (q0, .inl (k0, 24, .inl (fun _ => 0))), (q1, .inl (k1, 24, .inl (fun _ => 0)))] := hD
  refine lv_aload_n hx hb dX1_init_20 rfl (lv_at hl 0 rfl) ?_
  refine lv_bipush (v := 24) hx hb dX1_init_21 (by decide) ?_
  refine va_newa (atype := .int) (ty := .int) (N' := 24) (a0 := (24, .inl (fun _ => 0))) hx hb (hts _ q77) rfl hK hP hD hS hA (fun _ => rfl) (by decide) (by decide +kernel) (by decide) (Nat.le_of_ble_eq_true rfl) (Nat.le_of_ble_eq_true rfl) dX1_init_23 (fun q2 k2 H hK hP hD hS => ?_)
  have hP : va_P D vwCl [(h0, .inr (1, [.int 0, .ref q0, .ref q1, .null, .int 0, .null, .null, .int 0, .null, .null, .null, .null, .null, .null])), (q0, .inl (k0, 24, .inl (fun _ => 0))), (q1, .inl (k1, 24, .inl (fun _ => 0))), (q2, .inl (k2, 24, .inl (fun _ => 0)))] H := hP
  have hD : va_D A [(h0, .inr (1, [.int 0, .ref q0, .ref q1, .null, .int 0, .null, .null, .int 0, .null, .null, .null, .null, .null, .null])), (q0, .inl (k0, 24, .inl (fun _ => 0))), (q1, .inl (k1, 24, .inl (fun _ => 0))), (q2, .inl (k2, 24, .inl (fun _ => 0)))] := hD
  have hK : va_K D vwCl [(k0, .int), (k1, .int), (k2, .int)] s := hK
  refine W.widen (k := 3) (n := 72) (Nat.le_of_ble_eq_true rfl) (Nat.le_of_ble_eq_true rfl) ?_
  refine va_put (D := D) (ci := 1) (v := .ref q2) (ty := .array .int) (C := RX1) (T := TX1) (N := 14) hx hb hts in_X1 tyX1 tyX1_ok nmX1 hown hK hP hD hS 0 rfl rfl 3 (by decide) (hts _ q221) (fun _ h9 => h9) rfl (by decide +kernel) rfl rfl (Nat.le_of_ble_eq_true rfl) dX1_init_25 (fun H locs hP hD hS => ?_)
  have hP : va_P D vwCl [(h0, .inr (1, [.int 0, .ref q0, .ref q1, .ref q2, .int 0, .null, .null, .int 0, .null, .null, .null, .null, .null, .null])), (q0, .inl (k0, 24, .inl (fun _ => 0))), (q1, .inl (k1, 24, .inl (fun _ => 0))), (q2, .inl (k2, 24, .inl (fun _ => 0)))] H := hP
  have hD : va_D A [(h0, .inr (1, [.int 0, .ref q0, .ref q1, .ref q2, .int 0, .null, .null, .int 0, .null, .null, .null, .null, .null, .null])), (q0, .inl (k0, 24, .inl (fun _ => 0))), (q1, .inl (k1, 24, .inl (fun _ => 0))), (q2, .inl (k2, 24, .inl (fun _ => 0)))] := hD
  refine lv_aload_n hx hb dX1_init_28 rfl (lv_at hl 0 rfl) ?_
  refine lv_bipush (v := 8) hx hb dX1_init_29 (by decide) ?_
  refine va_newa (atype := .int) (ty := .int) (N' := 8) (a0 := (8, .inl (fun _ => 0))) hx hb (hts _ q77) rfl hK hP hD hS hA (fun _ => rfl) (by decide) (by decide +kernel) (by decide) (Nat.le_of_ble_eq_true rfl) (Nat.le_of_ble_eq_true rfl) dX1_init_31 (fun q3 k3 H hK hP hD hS => ?_)
  have hP : va_P D vwCl [(h0, .inr (1, [.int 0, .ref q0, .ref q1, .ref q2, .int 0, .null, .null, .int 0, .null, .null, .null, .null, .null, .null])), (q0, .inl (k0, 24, .inl (fun _ => 0))), (q1, .inl (k1, 24, .inl (fun _ => 0))), (q2, .inl (k2, 24, .inl (fun _ => 0))), (q3, .inl (k3, 8, .inl (fun _ => 0)))] H := hP
  have hD : va_D A [(h0, .inr (1, [.int 0, .ref q0, .ref q1, .ref q2, .int 0, .null, .null, .int 0, .null, .null, .null, .null, .null, .null])), (q0, .inl (k0, 24, .inl (fun _ => 0))), (q1, .inl (k1, 24, .inl (fun _ => 0))), (q2, .inl (k2, 24, .inl (fun _ => 0))), (q3, .inl (k3, 8, .inl (fun _ => 0)))] := hD
  have hK : va_K D vwCl [(k0, .int), (k1, .int), (k2, .int), (k3, .int)] s := hK
  refine W.widen (k := 4) (n := 80) (Nat.le_of_ble_eq_true rfl) (Nat.le_of_ble_eq_true rfl) ?_
  refine va_put (D := D) (ci := 1) (v := .ref q3) (ty := .array .int) (C := RX1) (T := TX1) (N := 14) hx hb hts in_X1 tyX1 tyX1_ok nmX1 hown hK hP hD hS 0 rfl rfl 5 (by decide) (hts _ q223) (fun _ h9 => h9) rfl (by decide +kernel) rfl rfl (Nat.le_of_ble_eq_true rfl) dX1_init_33 (fun H locs hP hD hS => ?_)
  have hP : va_P D vwCl [(h0, .inr (1, [.int 0, .ref q0, .ref q1, .ref q2, .int 0, .ref q3, .null, .int 0, .null, .null, .null, .null, .null, .null])), (q0, .inl (k0, 24, .inl (fun _ => 0))), (q1, .inl (k1, 24, .inl (fun _ => 0))), (q2, .inl (k2, 24, .inl (fun _ => 0))), (q3, .inl (k3, 8, .inl (fun _ => 0)))] H := hP
  have hD : va_D A [(h0, .inr (1, [.int 0, .ref q0, .ref q1, .ref q2, .int 0, .ref q3, .null, .int 0, .null, .null, .null, .null, .null, .null])), (q0, .inl (k0, 24, .inl (fun _ => 0))), (q1, .inl (k1, 24, .inl (fun _ => 0))), (q2, .inl (k2, 24, .inl (fun _ => 0))), (q3, .inl (k3, 8, .inl (fun _ => 0)))] := hD
  refine lv_aload_n hx hb dX1_init_36 rfl (lv_at hl 0 rfl) ?_
  refine lv_bipush (v := 8) hx hb dX1_init_37 (by decide) ?_
  refine va_newa (atype := .int) (ty := .int) (N' := 8) (a0 := (8, .inl (fun _ => 0))) hx hb (hts _ q77) rfl hK hP hD hS hA (fun _ => rfl) (by decide) (by decide +kernel) (by decide) (Nat.le_of_ble_eq_true rfl) (Nat.le_of_ble_eq_true rfl) dX1_init_39 (fun q4 k4 H hK hP hD hS => ?_)
  have hP : va_P D vwCl [(h0, .inr (1, [.int 0, .ref q0, .ref q1, .ref q2, .int 0, .ref q3, .null, .int 0, .null, .null, .null, .null, .null, .null])), (q0, .inl (k0, 24, .inl (fun _ => 0))), (q1, .inl (k1, 24, .inl (fun _ => 0))), (q2, .inl (k2, 24, .inl (fun _ => 0))), (q3, .inl (k3, 8, .inl (fun _ => 0))), (q4, .inl (k4, 8, .inl (fun _ => 0)))] H := hP
  have hD : va_D A [(h0, .inr (1, [.int 0, .ref q0, .ref q1, .ref q2, .int 0, .ref q3, .null, .int 0, .null, .null, .null, .null, .null, .null])), (q0, .inl (k0, 24, .inl (fun _ => 0))), (q1, .inl (k1, 24, .inl (fun _ => 0))), (q2, .inl (k2, 24, .inl (fun _ => 0))), (q3, .inl (k3, 8, .inl (fun _ => 0))), (q4, .inl (k4, 8, .inl (fun _ => 0)))] := hD
  have hK : va_K D vwCl [(k0, .int), (k1, .int), (k2, .int), (k3, .int), (k4, .int)] s := hK
  refine W.widen (k := 5) (n := 88) (Nat.le_of_ble_eq_true rfl) (Nat.le_of_ble_eq_true rfl) ?_
  refine va_put (D := D) (ci := 1) (v := .ref q4) (ty := .array .int) (C := RX1) (T := TX1) (N := 14) hx hb hts in_X1 tyX1 tyX1_ok nmX1 hown hK hP hD hS 0 rfl rfl 6 (by decide) (hts _ q224) (fun _ h9 => h9) rfl (by decide +kernel) rfl rfl (Nat.le_of_ble_eq_true rfl) dX1_init_41 (fun H locs hP hD hS => ?_)
  have hP : va_P D vwCl [(h0, .inr (1, [.int 0, .ref q0, .ref q1, .ref q2, .int 0, .ref q3, .ref q4, .int 0, .null, .null, .null, .null, .null, .null])), (q0, .inl (k0, 24, .inl (fun _ => 0))), (q1, .inl (k1, 24, .inl (fun _ => 0))), (q2, .inl (k2, 24, .inl (fun _ => 0))), (q3, .inl (k3, 8, .inl (fun _ => 0))), (q4, .inl (k4, 8, .inl (fun _ => 0)))] H := hP
  have hD : va_D A [(h0, .inr (1, [.int 0, .ref q0, .ref q1, .ref q2, .int 0, .ref q3, .ref q4, .int 0, .null, .null, .null, .null, .null, .null])), (q0, .inl (k0, 24, .inl (fun _ => 0))), (q1, .inl (k1, 24, .inl (fun _ => 0))), (q2, .inl (k2, 24, .inl (fun _ => 0))), (q3, .inl (k3, 8, .inl (fun _ => 0))), (q4, .inl (k4, 8, .inl (fun _ => 0)))] := hD
  refine lv_aload_n hx hb dX1_init_44 rfl (lv_at hl 0 rfl) ?_
  refine lv_bipush (v := 12) hx hb dX1_init_45 (by decide) ?_
  refine va_newa (atype := .int) (ty := .int) (N' := 12) (a0 := (12, .inl (fun _ => 0))) hx hb (hts _ q77) rfl hK hP hD hS hA (fun _ => rfl) (by decide) (by decide +kernel) (by decide) (Nat.le_of_ble_eq_true rfl) (Nat.le_of_ble_eq_true rfl) dX1_init_47 (fun q5 k5 H hK hP hD hS => ?_)
  have hP : va_P D vwCl [(h0, .inr (1, [.int 0, .ref q0, .ref q1, .ref q2, .int 0, .ref q3, .ref q4, .int 0, .null, .null, .null, .null, .null, .null])), (q0, .inl (k0, 24, .inl (fun _ => 0))), (q1, .inl (k1, 24, .inl (fun _ => 0))), (q2, .inl (k2, 24, .inl (fun _ => 0))), (q3, .inl (k3, 8, .inl (fun _ => 0))), (q4, .inl (k4, 8, .inl (fun _ => 0))), (q5, .inl (k5, 12, .inl (fun _ => 0)))] H := hP
  have hD : va_D A [(h0, .inr (1, [.int 0, .ref q0, .ref q1, .ref q2, .int 0, .ref q3, .ref q4, .int 0, .null, .null, .null, .null, .null, .null])), (q0, .inl (k0, 24, .inl (fun _ => 0))), (q1, .inl (k1, 24, .inl (fun _ => 0))), (q2, .inl (k2, 24, .inl (fun _ => 0))), (q3, .inl (k3, 8, .inl (fun _ => 0))), (q4, .inl (k4, 8, .inl (fun _ => 0))), (q5, .inl (k5, 12, .inl (fun _ => 0)))] := hD
  have hK : va_K D vwCl [(k0, .int), (k1, .int), (k2, .int), (k3, .int), (k4, .int), (k5, .int)] s := hK
  refine W.widen (k := 6) (n := 100) (Nat.le_of_ble_eq_true rfl) (Nat.le_of_ble_eq_true rfl) ?_
  refine va_put (D := D) (ci := 1) (v := .ref q5) (ty := .array .int) (C := RX1) (T := TX1) (N := 14) hx hb hts in_X1 tyX1 tyX1_ok nmX1 hown hK hP hD hS 0 rfl rfl 8 (by decide) (hts _ q226) (fun _ h9 => h9) rfl (by decide +kernel) rfl rfl (Nat.le_of_ble_eq_true rfl) dX1_init_49 (fun H locs hP hD hS => ?_)
  have hP : va_P D vwCl [(h0, .inr (1, [.int 0, .ref q0, .ref q1, .ref q2, .int 0, .ref q3, .ref q4, .int 0, .ref q5, .null, .null, .null, .null, .null])), (q0, .inl (k0, 24, .inl (fun _ => 0))), (q1, .inl (k1, 24, .inl (fun _ => 0))), (q2, .inl (k2, 24, .inl (fun _ => 0))), (q3, .inl (k3, 8, .inl (fun _ => 0))), (q4, .inl (k4, 8, .inl (fun _ => 0))), (q5, .inl (k5, 12, .inl (fun _ => 0)))] H := hP
  have hD : va_D A [(h0, .inr (1, [.int 0, .ref q0, .ref q1, .ref q2, .int 0, .ref q3, .ref q4, .int 0, .ref q5, .null, .null, .null, .null, .null])), (q0, .inl (k0, 24, .inl (fun _ => 0))), (q1, .inl (k1, 24, .inl (fun _ => 0))), (q2, .inl (k2, 24, .inl (fun _ => 0))), (q3, .inl (k3, 8, .inl (fun _ => 0))), (q4, .inl (k4, 8, .inl (fun _ => 0))), (q5, .inl (k5, 12, .inl (fun _ => 0)))] := hD
  refine lv_aload_n hx hb dX1_init_52 rfl (lv_at hl 0 rfl) ?_
  refine lv_bipush (v := 12) hx hb dX1_init_53 (by decide) ?_
  refine va_newa (atype := .int) (ty := .int) (N' := 12) (a0 := (12, .inl (fun _ => 0))) hx hb (hts _ q77) rfl hK hP hD hS hA (fun _ => rfl) (by decide) (by decide +kernel) (by decide) (Nat.le_of_ble_eq_true rfl) (Nat.le_of_ble_eq_true rfl) dX1_init_55 (fun q6 k6 H hK hP hD hS => ?_)
  have hP : va_P D vwCl [(h0, .inr (1, [.int 0, .ref q0, .ref q1, .ref q2, .int 0, .ref q3, .ref q4, .int 0, .ref q5, .null, .null, .null, .null, .null])), (q0, .inl (k0, 24, .inl (fun _ => 0))), (q1, .inl (k1, 24, .inl (fun _ => 0))), (q2, .inl (k2, 24, .inl (fun _ => 0))), (q3, .inl (k3, 8, .inl (fun _ => 0))), (q4, .inl (k4, 8, .inl (fun _ => 0))), (q5, .inl (k5, 12, .inl (fun _ => 0))), (q6, .inl (k6, 12, .inl (fun _ => 0)))] H := hP
  have hD : va_D A [(h0, .inr (1, [.int 0, .ref q0, .ref q1, .ref q2, .int 0, .ref q3, .ref q4, .int 0, .ref q5, .null, .null, .null, .null, .null])), (q0, .inl (k0, 24, .inl (fun _ => 0))), (q1, .inl (k1, 24, .inl (fun _ => 0))), (q2, .inl (k2, 24, .inl (fun _ => 0))), (q3, .inl (k3, 8, .inl (fun _ => 0))), (q4, .inl (k4, 8, .inl (fun _ => 0))), (q5, .inl (k5, 12, .inl (fun _ => 0))), (q6, .inl (k6, 12, .inl (fun _ => 0)))] := hD
  have hK : va_K D vwCl [(k0, .int), (k1, .int), (k2, .int), (k3, .int), (k4, .int), (k5, .int), (k6, .int)] s := hK
  refine W.widen (k := 7) (n := 112) (Nat.le_of_ble_eq_true rfl) (Nat.le_of_ble_eq_true rfl) ?_
  refine va_put (D := D) (ci := 1) (v := .ref q6) (ty := .array .int) (C := RX1) (T := TX1) (N := 14) hx hb hts in_X1 tyX1 tyX1_ok nmX1 hown hK hP hD hS 0 rfl rfl 9 (by decide) (hts _ q227) (fun _ h9 => h9) rfl (by decide +kernel) rfl rfl (Nat.le_of_ble_eq_true rfl) dX1_init_57 (fun H locs hP hD hS => ?_)
  have hP : va_P D vwCl [(h0, .inr (1, [.int 0, .ref q0, .ref q1, .ref q2, .int 0, .ref q3, .ref q4, .int 0, .ref q5, .ref q6, .null, .null, .null, .null])), (q0, .inl (k0, 24, .inl (fun _ => 0))), (q1, .inl (k1, 24, .inl (fun _ => 0))), (q2, .inl (k2, 24, .inl (fun _ => 0))), (q3, .inl (k3, 8, .inl (fun _ => 0))), (q4, .inl (k4, 8, .inl (fun _ => 0))), (q5, .inl (k5, 12, .inl (fun _ => 0))), (q6, .inl (k6, 12, .inl (fun _ => 0)))] H := hP
  have hD : va_D A [(h0, .inr (1, [.int 0, .ref q0, .ref q1, .ref q2, .int 0, .ref q3, .ref q4, .int 0, .ref q5, .ref q6, .null, .null, .null, .null])), (q0, .inl (k0, 24, .inl (fun _ => 0))), (q1, .inl (k1, 24, .inl (fun _ => 0))), (q2, .inl (k2, 24, .inl (fun _ => 0))), (q3, .inl (k3, 8, .inl (fun _ => 0))), (q4, .inl (k4, 8, .inl (fun _ => 0))), (q5, .inl (k5, 12, .inl (fun _ => 0))), (q6, .inl (k6, 12, .inl (fun _ => 0)))] := hD
  refine lv_aload_n hx hb dX1_init_60 rfl (lv_at hl 0 rfl) ?_
  refine lv_bipush (v := 24) hx hb dX1_init_61 (by decide) ?_
  refine va_newa (atype := .int) (ty := .int) (N' := 24) (a0 := (24, .inl (fun _ => 0))) hx hb (hts _ q77) rfl hK hP hD hS hA (fun _ => rfl) (by decide) (by decide +kernel) (by decide) (Nat.le_of_ble_eq_true rfl) (Nat.le_of_ble_eq_true rfl) dX1_init_63 (fun q7 k7 H hK hP hD hS => ?_)
  have hP : va_P D vwCl [(h0, .inr (1, [.int 0, .ref q0, .ref q1, .ref q2, .int 0, .ref q3, .ref q4, .int 0, .ref q5, .ref q6, .null, .null, .null, .null])), (q0, .inl (k0, 24, .inl (fun _ => 0))), (q1, .inl (k1, 24, .inl (fun _ => 0))), (q2, .inl (k2, 24, .inl (fun _ => 0))), (q3, .inl (k3, 8, .inl (fun _ => 0))), (q4, .inl (k4, 8, .inl (fun _ => 0))), (q5, .inl (k5, 12, .inl (fun _ => 0))), (q6, .inl (k6, 12, .inl (fun _ => 0))), (q7, .inl (k7, 24, .inl (fun _ => 0)))] H := hP
  have hD : va_D A [(h0, .inr (1, [.int 0, .ref q0, .ref q1, .ref q2, .int 0, .ref q3, .ref q4, .int 0, .ref q5, .ref q6, .null, .null, .null, .null])), (q0, .inl (k0, 24, .inl (fun _ => 0))), (q1, .inl (k1, 24, .inl (fun _ => 0))), (q2, .inl (k2, 24, .inl (fun _ => 0))), (q3, .inl (k3, 8, .inl (fun _ => 0))), (q4, .inl (k4, 8, .inl (fun _ => 0))), (q5, .inl (k5, 12, .inl (fun _ => 0))), (q6, .inl (k6, 12, .inl (fun _ => 0))), (q7, .inl (k7, 24, .inl (fun _ => 0)))] := hD
  have hK : va_K D vwCl [(k0, .int), (k1, .int), (k2, .int), (k3, .int), (k4, .int), (k5, .int), (k6, .int), (k7, .int)] s := hK
  refine W.widen (k := 8) (n := 136) (Nat.le_of_ble_eq_true rfl) (Nat.le_of_ble_eq_true rfl) ?_
  refine va_put (D := D) (ci := 1) (v := .ref q7) (ty := .array .int) (C := RX1) (T := TX1) (N := 14) hx hb hts in_X1 tyX1 tyX1_ok nmX1 hown hK hP hD hS 0 rfl rfl 10 (by decide) (hts _ q228) (fun _ h9 => h9) rfl (by decide +kernel) rfl rfl (Nat.le_of_ble_eq_true rfl) dX1_init_65 (fun H locs hP hD hS => ?_)
  have hP : va_P D vwCl [(h0, .inr (1, [.int 0, .ref q0, .ref q1, .ref q2, .int 0, .ref q3, .ref q4, .int 0, .ref q5, .ref q6, .ref q7, .null, .null, .null])), (q0, .inl (k0, 24, .inl (fun _ => 0))), (q1, .inl (k1, 24, .inl (fun _ => 0))), (q2, .inl (k2, 24, .inl (fun _ => 0))), (q3, .inl (k3, 8, .inl (fun _ => 0))), (q4, .inl (k4, 8, .inl (fun _ => 0))), (q5, .inl (k5, 12, .inl (fun _ => 0))), (q6, .inl (k6, 12, .inl (fun _ => 0))), (q7, .inl (k7, 24, .inl (fun _ => 0)))] H := hP
  have hD : va_D A [(h0, .inr (1, [.int 0, .ref q0, .ref q1, .ref q2, .int 0, .ref q3, .ref q4, .int 0, .ref q5, .ref q6, .ref q7, .null, .null, .null])), (q0, .inl (k0, 24, .inl (fun _ => 0))), (q1, .inl (k1, 24, .inl (fun _ => 0))), (q2, .inl (k2, 24, .inl (fun _ => 0))), (q3, .inl (k3, 8, .inl (fun _ => 0))), (q4, .inl (k4, 8, .inl (fun _ => 0))), (q5, .inl (k5, 12, .inl (fun _ => 0))), (q6, .inl (k6, 12, .inl (fun _ => 0))), (q7, .inl (k7, 24, .inl (fun _ => 0)))] := hD
  refine lv_aload_n hx hb dX1_init_68 rfl (lv_at hl 0 rfl) ?_
  refine lv_bipush (v := 24) hx hb dX1_init_69 (by decide) ?_
  refine va_newa (atype := .int) (ty := .int) (N' := 24) (a0 := (24, .inl (fun _ => 0))) hx hb (hts _ q77) rfl hK hP hD hS hA (fun _ => rfl) (by decide) (by decide +kernel) (by decide) (Nat.le_of_ble_eq_true rfl) (Nat.le_of_ble_eq_true rfl) dX1_init_71 (fun q8 k8 H hK hP hD hS => ?_)
  have hP : va_P D vwCl [(h0, .inr (1, [.int 0, .ref q0, .ref q1, .ref q2, .int 0, .ref q3, .ref q4, .int 0, .ref q5, .ref q6, .ref q7, .null, .null, .null])), (q0, .inl (k0, 24, .inl (fun _ => 0))), (q1, .inl (k1, 24, .inl (fun _ => 0))), (q2, .inl (k2, 24, .inl (fun _ => 0))), (q3, .inl (k3, 8, .inl (fun _ => 0))), (q4, .inl (k4, 8, .inl (fun _ => 0))), (q5, .inl (k5, 12, .inl (fun _ => 0))), (q6, .inl (k6, 12, .inl (fun _ => 0))), (q7, .inl (k7, 24, .inl (fun _ => 0))), (q8, .inl (k8, 24, .inl (fun _ => 0)))] H := hP
  have hD : va_D A [(h0, .inr (1, [.int 0, .ref q0, .ref q1, .ref q2, .int 0, .ref q3, .ref q4, .int 0, .ref q5, .ref q6, .ref q7, .null, .null, .null])), (q0, .inl (k0, 24, .inl (fun _ => 0))), (q1, .inl (k1, 24, .inl (fun _ => 0))), (q2, .inl (k2, 24, .inl (fun _ => 0))), (q3, .inl (k3, 8, .inl (fun _ => 0))), (q4, .inl (k4, 8, .inl (fun _ => 0))), (q5, .inl (k5, 12, .inl (fun _ => 0))), (q6, .inl (k6, 12, .inl (fun _ => 0))), (q7, .inl (k7, 24, .inl (fun _ => 0))), (q8, .inl (k8, 24, .inl (fun _ => 0)))] := hD
  have hK : va_K D vwCl [(k0, .int), (k1, .int), (k2, .int), (k3, .int), (k4, .int), (k5, .int), (k6, .int), (k7, .int), (k8, .int)] s := hK
  refine W.widen (k := 9) (n := 160) (Nat.le_of_ble_eq_true rfl) (Nat.le_of_ble_eq_true rfl) ?_
  refine va_put (D := D) (ci := 1) (v := .ref q8) (ty := .array .int) (C := RX1) (T := TX1) (N := 14) hx hb hts in_X1 tyX1 tyX1_ok nmX1 hown hK hP hD hS 0 rfl rfl 11 (by decide) (hts _ q229) (fun _ h9 => h9) rfl (by decide +kernel) rfl rfl (Nat.le_of_ble_eq_true rfl) dX1_init_73 (fun H locs hP hD hS => ?_)
  have hP : va_P D vwCl [(h0, .inr (1, [.int 0, .ref q0, .ref q1, .ref q2, .int 0, .ref q3, .ref q4, .int 0, .ref q5, .ref q6, .ref q7, .ref q8, .null, .null])), (q0, .inl (k0, 24, .inl (fun _ => 0))), (q1, .inl (k1, 24, .inl (fun _ => 0))), (q2, .inl (k2, 24, .inl (fun _ => 0))), (q3, .inl (k3, 8, .inl (fun _ => 0))), (q4, .inl (k4, 8, .inl (fun _ => 0))), (q5, .inl (k5, 12, .inl (fun _ => 0))), (q6, .inl (k6, 12, .inl (fun _ => 0))), (q7, .inl (k7, 24, .inl (fun _ => 0))), (q8, .inl (k8, 24, .inl (fun _ => 0)))] H := hP
  have hD : va_D A [(h0, .inr (1, [.int 0, .ref q0, .ref q1, .ref q2, .int 0, .ref q3, .ref q4, .int 0, .ref q5, .ref q6, .ref q7, .ref q8, .null, .null])), (q0, .inl (k0, 24, .inl (fun _ => 0))), (q1, .inl (k1, 24, .inl (fun _ => 0))), (q2, .inl (k2, 24, .inl (fun _ => 0))), (q3, .inl (k3, 8, .inl (fun _ => 0))), (q4, .inl (k4, 8, .inl (fun _ => 0))), (q5, .inl (k5, 12, .inl (fun _ => 0))), (q6, .inl (k6, 12, .inl (fun _ => 0))), (q7, .inl (k7, 24, .inl (fun _ => 0))), (q8, .inl (k8, 24, .inl (fun _ => 0)))] := hD
  refine lv_aload_n hx hb dX1_init_76 rfl (lv_at hl 0 rfl) ?_
  refine lv_iconst (v := 4) hx hb dX1_init_77 (by decide) ?_
  refine va_newa (atype := .int) (ty := .int) (N' := 4) (a0 := (4, .inl (fun _ => 0))) hx hb (hts _ q77) rfl hK hP hD hS hA (fun _ => rfl) (by decide) (by decide +kernel) (by decide) (Nat.le_of_ble_eq_true rfl) (Nat.le_of_ble_eq_true rfl) dX1_init_78 (fun q9 k9 H hK hP hD hS => ?_)
  have hP : va_P D vwCl [(h0, .inr (1, [.int 0, .ref q0, .ref q1, .ref q2, .int 0, .ref q3, .ref q4, .int 0, .ref q5, .ref q6, .ref q7, .ref q8, .null, .null])), (q0, .inl (k0, 24, .inl (fun _ => 0))), (q1, .inl (k1, 24, .inl (fun _ => 0))), (q2, .inl (k2, 24, .inl (fun _ => 0))), (q3, .inl (k3, 8, .inl (fun _ => 0))), (q4, .inl (k4, 8, .inl (fun _ => 0))), (q5, .inl (k5, 12, .inl (fun _ => 0))), (q6, .inl (k6, 12, .inl (fun _ => 0))), (q7, .inl (k7, 24, .inl (fun _ => 0))), (q8, .inl (k8, 24, .inl (fun _ => 0))), (q9, .inl (k9, 4, .inl (fun _ => 0)))] H := hP
  have hD : va_D A [(h0, .inr (1, [.int 0, .ref q0, .ref q1, .ref q2, .int 0, .ref q3, .ref q4, .int 0, .ref q5, .ref q6, .ref q7, .ref q8, .null, .null])), (q0, .inl (k0, 24, .inl (fun _ => 0))), (q1, .inl (k1, 24, .inl (fun _ => 0))), (q2, .inl (k2, 24, .inl (fun _ => 0))), (q3, .inl (k3, 8, .inl (fun _ => 0))), (q4, .inl (k4, 8, .inl (fun _ => 0))), (q5, .inl (k5, 12, .inl (fun _ => 0))), (q6, .inl (k6, 12, .inl (fun _ => 0))), (q7, .inl (k7, 24, .inl (fun _ => 0))), (q8, .inl (k8, 24, .inl (fun _ => 0))), (q9, .inl (k9, 4, .inl (fun _ => 0)))] := hD
  have hK : va_K D vwCl [(k0, .int), (k1, .int), (k2, .int), (k3, .int), (k4, .int), (k5, .int), (k6, .int), (k7, .int), (k8, .int), (k9, .int)] s := hK
  refine W.widen (k := 10) (n := 164) (Nat.le_of_ble_eq_true rfl) (Nat.le_of_ble_eq_true rfl) ?_
  refine va_put (D := D) (ci := 1) (v := .ref q9) (ty := .array .int) (C := RX1) (T := TX1) (N := 14) hx hb hts in_X1 tyX1 tyX1_ok nmX1 hown hK hP hD hS 0 rfl rfl 12 (by decide) (hts _ q230) (fun _ h9 => h9) rfl (by decide +kernel) rfl rfl (Nat.le_of_ble_eq_true rfl) dX1_init_80 (fun H locs hP hD hS => ?_)
  have hP : va_P D vwCl [(h0, .inr (1, [.int 0, .ref q0, .ref q1, .ref q2, .int 0, .ref q3, .ref q4, .int 0, .ref q5, .ref q6, .ref q7, .ref q8, .ref q9, .null])), (q0, .inl (k0, 24, .inl (fun _ => 0))), (q1, .inl (k1, 24, .inl (fun _ => 0))), (q2, .inl (k2, 24, .inl (fun _ => 0))), (q3, .inl (k3, 8, .inl (fun _ => 0))), (q4, .inl (k4, 8, .inl (fun _ => 0))), (q5, .inl (k5, 12, .inl (fun _ => 0))), (q6, .inl (k6, 12, .inl (fun _ => 0))), (q7, .inl (k7, 24, .inl (fun _ => 0))), (q8, .inl (k8, 24, .inl (fun _ => 0))), (q9, .inl (k9, 4, .inl (fun _ => 0)))] H := hP
  have hD : va_D A [(h0, .inr (1, [.int 0, .ref q0, .ref q1, .ref q2, .int 0, .ref q3, .ref q4, .int 0, .ref q5, .ref q6, .ref q7, .ref q8, .ref q9, .null])), (q0, .inl (k0, 24, .inl (fun _ => 0))), (q1, .inl (k1, 24, .inl (fun _ => 0))), (q2, .inl (k2, 24, .inl (fun _ => 0))), (q3, .inl (k3, 8, .inl (fun _ => 0))), (q4, .inl (k4, 8, .inl (fun _ => 0))), (q5, .inl (k5, 12, .inl (fun _ => 0))), (q6, .inl (k6, 12, .inl (fun _ => 0))), (q7, .inl (k7, 24, .inl (fun _ => 0))), (q8, .inl (k8, 24, .inl (fun _ => 0))), (q9, .inl (k9, 4, .inl (fun _ => 0)))] := hD
  refine lv_aload_n hx hb dX1_init_83 rfl (lv_at hl 0 rfl) ?_
  refine lv_bipush (v := 24) hx hb dX1_init_84 (by decide) ?_
  refine va_newa (atype := .boolean) (ty := .boolean) (N' := 24) (a0 := (24, .inl (fun _ => 0))) hx hb (hts _ q78) rfl hK hP hD hS hA (fun _ => rfl) (by decide) (by decide +kernel) (by decide) (Nat.le_of_ble_eq_true rfl) (Nat.le_of_ble_eq_true rfl) dX1_init_86 (fun q10 k10 H hK hP hD hS => ?_)
  have hP : va_P D vwCl [(h0, .inr (1, [.int 0, .ref q0, .ref q1, .ref q2, .int 0, .ref q3, .ref q4, .int 0, .ref q5, .ref q6, .ref q7, .ref q8, .ref q9, .null])), (q0, .inl (k0, 24, .inl (fun _ => 0))), (q1, .inl (k1, 24, .inl (fun _ => 0))), (q2, .inl (k2, 24, .inl (fun _ => 0))), (q3, .inl (k3, 8, .inl (fun _ => 0))), (q4, .inl (k4, 8, .inl (fun _ => 0))), (q5, .inl (k5, 12, .inl (fun _ => 0))), (q6, .inl (k6, 12, .inl (fun _ => 0))), (q7, .inl (k7, 24, .inl (fun _ => 0))), (q8, .inl (k8, 24, .inl (fun _ => 0))), (q9, .inl (k9, 4, .inl (fun _ => 0))), (q10, .inl (k10, 24, .inl (fun _ => 0)))] H := hP
  have hD : va_D A [(h0, .inr (1, [.int 0, .ref q0, .ref q1, .ref q2, .int 0, .ref q3, .ref q4, .int 0, .ref q5, .ref q6, .ref q7, .ref q8, .ref q9, .null])), (q0, .inl (k0, 24, .inl (fun _ => 0))), (q1, .inl (k1, 24, .inl (fun _ => 0))), (q2, .inl (k2, 24, .inl (fun _ => 0))), (q3, .inl (k3, 8, .inl (fun _ => 0))), (q4, .inl (k4, 8, .inl (fun _ => 0))), (q5, .inl (k5, 12, .inl (fun _ => 0))), (q6, .inl (k6, 12, .inl (fun _ => 0))), (q7, .inl (k7, 24, .inl (fun _ => 0))), (q8, .inl (k8, 24, .inl (fun _ => 0))), (q9, .inl (k9, 4, .inl (fun _ => 0))), (q10, .inl (k10, 24, .inl (fun _ => 0)))] := hD
  have hK : va_K D vwCl [(k0, .int), (k1, .int), (k2, .int), (k3, .int), (k4, .int), (k5, .int), (k6, .int), (k7, .int), (k8, .int), (k9, .int), (k10, .boolean)] s := hK
  refine W.widen (k := 11) (n := 188) (Nat.le_of_ble_eq_true rfl) (Nat.le_of_ble_eq_true rfl) ?_
  refine va_put (D := D) (ci := 1) (v := .ref q10) (ty := .array .boolean) (C := RX1) (T := TX1) (N := 14) hx hb hts in_X1 tyX1 tyX1_ok nmX1 hown hK hP hD hS 0 rfl rfl 13 (by decide) (hts _ q231) (fun _ h9 => h9) rfl (by decide +kernel) rfl rfl (Nat.le_of_ble_eq_true rfl) dX1_init_88 (fun H locs hP hD hS => ?_)
  have hP : va_P D vwCl [(h0, .inr (1, [.int 0, .ref q0, .ref q1, .ref q2, .int 0, .ref q3, .ref q4, .int 0, .ref q5, .ref q6, .ref q7, .ref q8, .ref q9, .ref q10])), (q0, .inl (k0, 24, .inl (fun _ => 0))), (q1, .inl (k1, 24, .inl (fun _ => 0))), (q2, .inl (k2, 24, .inl (fun _ => 0))), (q3, .inl (k3, 8, .inl (fun _ => 0))), (q4, .inl (k4, 8, .inl (fun _ => 0))), (q5, .inl (k5, 12, .inl (fun _ => 0))), (q6, .inl (k6, 12, .inl (fun _ => 0))), (q7, .inl (k7, 24, .inl (fun _ => 0))), (q8, .inl (k8, 24, .inl (fun _ => 0))), (q9, .inl (k9, 4, .inl (fun _ => 0))), (q10, .inl (k10, 24, .inl (fun _ => 0)))] H := hP
  have hD : va_D A [(h0, .inr (1, [.int 0, .ref q0, .ref q1, .ref q2, .int 0, .ref q3, .ref q4, .int 0, .ref q5, .ref q6, .ref q7, .ref q8, .ref q9, .ref q10])), (q0, .inl (k0, 24, .inl (fun _ => 0))), (q1, .inl (k1, 24, .inl (fun _ => 0))), (q2, .inl (k2, 24, .inl (fun _ => 0))), (q3, .inl (k3, 8, .inl (fun _ => 0))), (q4, .inl (k4, 8, .inl (fun _ => 0))), (q5, .inl (k5, 12, .inl (fun _ => 0))), (q6, .inl (k6, 12, .inl (fun _ => 0))), (q7, .inl (k7, 24, .inl (fun _ => 0))), (q8, .inl (k8, 24, .inl (fun _ => 0))), (q9, .inl (k9, 4, .inl (fun _ => 0))), (q10, .inl (k10, 24, .inl (fun _ => 0)))] := hD
  exact W.vret hx hb hr (fun t ht hW => ⟨⟨(fun i => [0, q0, q1, q2, 0, q3, q4, 0, q5, q6, q7, q8, q9, q10, h0].getD i 0, fun i => [k0, k0, k1, k2, k0, k3, k4, k0, k5, k6, k7, k8, k9, k10].getD i k0), rfl, trivial, rfl, by rw [ht]; exact hP, va_K.moved hW.alike hK, hD⟩, hS.F ht⟩) hS.2.2 dX1_init_91
end
section
/-! the law's own entry -/
set_option maxRecDepth 100000
abbrev cL_law : ByteArray := code
theorem dL_law_0 : decode cL_law 0 = .ok (.new 7, 3) := by decide +kernel
theorem dL_law_3 : decode cL_law 3 = .ok (.dup, 1) := by decide +kernel
theorem dL_law_4 : decode cL_law 4 = .ok (.invokespecial 9, 3) := by decide +kernel
theorem dL_law_7 : decode cL_law 7 = .ok (.astore_n 1, 1) := by decide +kernel
theorem dL_law_8 : decode cL_law 8 = .ok (.new 10, 3) := by decide +kernel
theorem dL_law_11 : decode cL_law 11 = .ok (.dup, 1) := by decide +kernel
theorem dL_law_12 : decode cL_law 12 = .ok (.invokespecial 12, 3) := by decide +kernel
theorem dL_law_15 : decode cL_law 15 = .ok (.astore_n 2, 1) := by decide +kernel
theorem dL_law_16 : decode cL_law 16 = .ok (.iconst 0, 1) := by decide +kernel
theorem dL_law_17 : decode cL_law 17 = .ok (.istore_n 3, 1) := by decide +kernel
theorem dL_law_18 : decode cL_law 18 = .ok (.iload_n 3, 1) := by decide +kernel
theorem dL_law_19 : decode cL_law 19 = .ok (.aload_n 0, 1) := by decide +kernel
theorem dL_law_20 : decode cL_law 20 = .ok (.arraylength, 1) := by decide +kernel
theorem dL_law_21 : decode cL_law 21 = .ok (.iconst 4, 1) := by decide +kernel
theorem dL_law_22 : decode cL_law 22 = .ok (.isub, 1) := by decide +kernel
theorem dL_law_23 : decode cL_law 23 = .ok (.if_icmp .gt 735, 3) := by decide +kernel
theorem dL_law_26 : decode cL_law 26 = .ok (.aload_n 0, 1) := by decide +kernel
theorem dL_law_27 : decode cL_law 27 = .ok (.iload_n 3, 1) := by decide +kernel
theorem dL_law_28 : decode cL_law 28 = .ok (.iaload, 1) := by decide +kernel
theorem dL_law_29 : decode cL_law 29 = .ok (.bipush 31, 2) := by decide +kernel
theorem dL_law_31 : decode cL_law 31 = .ok (.iand, 1) := by decide +kernel
theorem dL_law_32 : decode cL_law 32 = .ok (.tableswitch 720 0 21 #[104, 127, 150, 193, 216, 249, 262, 275, 288, 331, 374, 397, 430, 463, 496, 519, 552, 575, 618, 651, 674, 707], 104) := by decide +kernel
theorem dL_law_136 : decode cL_law 136 = .ok (.aload_n 1, 1) := by decide +kernel
theorem dL_law_137 : decode cL_law 137 = .ok (.aload_n 0, 1) := by decide +kernel
theorem dL_law_138 : decode cL_law 138 = .ok (.iload_n 3, 1) := by decide +kernel
theorem dL_law_139 : decode cL_law 139 = .ok (.iconst 1, 1) := by decide +kernel
theorem dL_law_140 : decode cL_law 140 = .ok (.iadd, 1) := by decide +kernel
theorem dL_law_141 : decode cL_law 141 = .ok (.iaload, 1) := by decide +kernel
theorem dL_law_142 : decode cL_law 142 = .ok (.invokevirtual 13, 3) := by decide +kernel
theorem dL_law_145 : decode cL_law 145 = .ok (.aload_n 2, 1) := by decide +kernel
theorem dL_law_146 : decode cL_law 146 = .ok (.aload_n 0, 1) := by decide +kernel
theorem dL_law_147 : decode cL_law 147 = .ok (.iload_n 3, 1) := by decide +kernel
theorem dL_law_148 : decode cL_law 148 = .ok (.iconst 1, 1) := by decide +kernel
theorem dL_law_149 : decode cL_law 149 = .ok (.iadd, 1) := by decide +kernel
theorem dL_law_150 : decode cL_law 150 = .ok (.iaload, 1) := by decide +kernel
theorem dL_law_151 : decode cL_law 151 = .ok (.invokevirtual 17, 3) := by decide +kernel
theorem dL_law_154 : decode cL_law 154 = .ok (.if_icmp .eq 598, 3) := by decide +kernel
theorem dL_law_157 : decode cL_law 157 = .ok (.iconst 0, 1) := by decide +kernel
theorem dL_law_158 : decode cL_law 158 = .ok (.ireturn, 1) := by decide +kernel
theorem dL_law_159 : decode cL_law 159 = .ok (.aload_n 1, 1) := by decide +kernel
theorem dL_law_160 : decode cL_law 160 = .ok (.aload_n 0, 1) := by decide +kernel
theorem dL_law_161 : decode cL_law 161 = .ok (.iload_n 3, 1) := by decide +kernel
theorem dL_law_162 : decode cL_law 162 = .ok (.iconst 1, 1) := by decide +kernel
theorem dL_law_163 : decode cL_law 163 = .ok (.iadd, 1) := by decide +kernel
theorem dL_law_164 : decode cL_law 164 = .ok (.iaload, 1) := by decide +kernel
theorem dL_law_165 : decode cL_law 165 = .ok (.invokevirtual 18, 3) := by decide +kernel
theorem dL_law_168 : decode cL_law 168 = .ok (.aload_n 2, 1) := by decide +kernel
theorem dL_law_169 : decode cL_law 169 = .ok (.aload_n 0, 1) := by decide +kernel
theorem dL_law_170 : decode cL_law 170 = .ok (.iload_n 3, 1) := by decide +kernel
theorem dL_law_171 : decode cL_law 171 = .ok (.iconst 1, 1) := by decide +kernel
theorem dL_law_172 : decode cL_law 172 = .ok (.iadd, 1) := by decide +kernel
theorem dL_law_173 : decode cL_law 173 = .ok (.iaload, 1) := by decide +kernel
theorem dL_law_174 : decode cL_law 174 = .ok (.invokevirtual 21, 3) := by decide +kernel
theorem dL_law_177 : decode cL_law 177 = .ok (.if_icmp .eq 575, 3) := by decide +kernel
theorem dL_law_180 : decode cL_law 180 = .ok (.iconst 0, 1) := by decide +kernel
theorem dL_law_181 : decode cL_law 181 = .ok (.ireturn, 1) := by decide +kernel
theorem dL_law_182 : decode cL_law 182 = .ok (.aload_n 1, 1) := by decide +kernel
theorem dL_law_183 : decode cL_law 183 = .ok (.aload_n 0, 1) := by decide +kernel
theorem dL_law_184 : decode cL_law 184 = .ok (.iload_n 3, 1) := by decide +kernel
theorem dL_law_185 : decode cL_law 185 = .ok (.iconst 1, 1) := by decide +kernel
theorem dL_law_186 : decode cL_law 186 = .ok (.iadd, 1) := by decide +kernel
theorem dL_law_187 : decode cL_law 187 = .ok (.iaload, 1) := by decide +kernel
theorem dL_law_188 : decode cL_law 188 = .ok (.aload_n 0, 1) := by decide +kernel
theorem dL_law_189 : decode cL_law 189 = .ok (.iload_n 3, 1) := by decide +kernel
theorem dL_law_190 : decode cL_law 190 = .ok (.iconst 2, 1) := by decide +kernel
theorem dL_law_191 : decode cL_law 191 = .ok (.iadd, 1) := by decide +kernel
theorem dL_law_192 : decode cL_law 192 = .ok (.iaload, 1) := by decide +kernel
theorem dL_law_193 : decode cL_law 193 = .ok (.aload_n 0, 1) := by decide +kernel
theorem dL_law_194 : decode cL_law 194 = .ok (.iload_n 3, 1) := by decide +kernel
theorem dL_law_195 : decode cL_law 195 = .ok (.iconst 3, 1) := by decide +kernel
theorem dL_law_196 : decode cL_law 196 = .ok (.iadd, 1) := by decide +kernel
theorem dL_law_197 : decode cL_law 197 = .ok (.iaload, 1) := by decide +kernel
theorem dL_law_198 : decode cL_law 198 = .ok (.invokevirtual 22, 3) := by decide +kernel
theorem dL_law_201 : decode cL_law 201 = .ok (.aload_n 2, 1) := by decide +kernel
theorem dL_law_202 : decode cL_law 202 = .ok (.aload_n 0, 1) := by decide +kernel
theorem dL_law_203 : decode cL_law 203 = .ok (.iload_n 3, 1) := by decide +kernel
theorem dL_law_204 : decode cL_law 204 = .ok (.iconst 1, 1) := by decide +kernel
theorem dL_law_205 : decode cL_law 205 = .ok (.iadd, 1) := by decide +kernel
theorem dL_law_206 : decode cL_law 206 = .ok (.iaload, 1) := by decide +kernel
theorem dL_law_207 : decode cL_law 207 = .ok (.aload_n 0, 1) := by decide +kernel
theorem dL_law_208 : decode cL_law 208 = .ok (.iload_n 3, 1) := by decide +kernel
theorem dL_law_209 : decode cL_law 209 = .ok (.iconst 2, 1) := by decide +kernel
theorem dL_law_210 : decode cL_law 210 = .ok (.iadd, 1) := by decide +kernel
theorem dL_law_211 : decode cL_law 211 = .ok (.iaload, 1) := by decide +kernel
theorem dL_law_212 : decode cL_law 212 = .ok (.aload_n 0, 1) := by decide +kernel
theorem dL_law_213 : decode cL_law 213 = .ok (.iload_n 3, 1) := by decide +kernel
theorem dL_law_214 : decode cL_law 214 = .ok (.iconst 3, 1) := by decide +kernel
theorem dL_law_215 : decode cL_law 215 = .ok (.iadd, 1) := by decide +kernel
theorem dL_law_216 : decode cL_law 216 = .ok (.iaload, 1) := by decide +kernel
theorem dL_law_217 : decode cL_law 217 = .ok (.invokevirtual 26, 3) := by decide +kernel
theorem dL_law_220 : decode cL_law 220 = .ok (.if_icmp .eq 532, 3) := by decide +kernel
theorem dL_law_223 : decode cL_law 223 = .ok (.iconst 0, 1) := by decide +kernel
theorem dL_law_224 : decode cL_law 224 = .ok (.ireturn, 1) := by decide +kernel
theorem dL_law_225 : decode cL_law 225 = .ok (.aload_n 1, 1) := by decide +kernel
theorem dL_law_226 : decode cL_law 226 = .ok (.aload_n 0, 1) := by decide +kernel
theorem dL_law_227 : decode cL_law 227 = .ok (.iload_n 3, 1) := by decide +kernel
theorem dL_law_228 : decode cL_law 228 = .ok (.iconst 1, 1) := by decide +kernel
theorem dL_law_229 : decode cL_law 229 = .ok (.iadd, 1) := by decide +kernel
theorem dL_law_230 : decode cL_law 230 = .ok (.iaload, 1) := by decide +kernel
theorem dL_law_231 : decode cL_law 231 = .ok (.invokevirtual 27, 3) := by decide +kernel
theorem dL_law_234 : decode cL_law 234 = .ok (.aload_n 2, 1) := by decide +kernel
theorem dL_law_235 : decode cL_law 235 = .ok (.aload_n 0, 1) := by decide +kernel
theorem dL_law_236 : decode cL_law 236 = .ok (.iload_n 3, 1) := by decide +kernel
theorem dL_law_237 : decode cL_law 237 = .ok (.iconst 1, 1) := by decide +kernel
theorem dL_law_238 : decode cL_law 238 = .ok (.iadd, 1) := by decide +kernel
theorem dL_law_239 : decode cL_law 239 = .ok (.iaload, 1) := by decide +kernel
theorem dL_law_240 : decode cL_law 240 = .ok (.invokevirtual 30, 3) := by decide +kernel
theorem dL_law_243 : decode cL_law 243 = .ok (.if_icmp .eq 509, 3) := by decide +kernel
theorem dL_law_246 : decode cL_law 246 = .ok (.iconst 0, 1) := by decide +kernel
theorem dL_law_247 : decode cL_law 247 = .ok (.ireturn, 1) := by decide +kernel
theorem dL_law_248 : decode cL_law 248 = .ok (.aload_n 1, 1) := by decide +kernel
theorem dL_law_249 : decode cL_law 249 = .ok (.aload_n 0, 1) := by decide +kernel
theorem dL_law_250 : decode cL_law 250 = .ok (.iload_n 3, 1) := by decide +kernel
theorem dL_law_251 : decode cL_law 251 = .ok (.iconst 1, 1) := by decide +kernel
theorem dL_law_252 : decode cL_law 252 = .ok (.iadd, 1) := by decide +kernel
theorem dL_law_253 : decode cL_law 253 = .ok (.iaload, 1) := by decide +kernel
theorem dL_law_254 : decode cL_law 254 = .ok (.aload_n 0, 1) := by decide +kernel
theorem dL_law_255 : decode cL_law 255 = .ok (.iload_n 3, 1) := by decide +kernel
theorem dL_law_256 : decode cL_law 256 = .ok (.iconst 2, 1) := by decide +kernel
theorem dL_law_257 : decode cL_law 257 = .ok (.iadd, 1) := by decide +kernel
theorem dL_law_258 : decode cL_law 258 = .ok (.iaload, 1) := by decide +kernel
theorem dL_law_259 : decode cL_law 259 = .ok (.invokevirtual 31, 3) := by decide +kernel
theorem dL_law_262 : decode cL_law 262 = .ok (.aload_n 2, 1) := by decide +kernel
theorem dL_law_263 : decode cL_law 263 = .ok (.aload_n 0, 1) := by decide +kernel
theorem dL_law_264 : decode cL_law 264 = .ok (.iload_n 3, 1) := by decide +kernel
theorem dL_law_265 : decode cL_law 265 = .ok (.iconst 1, 1) := by decide +kernel
theorem dL_law_266 : decode cL_law 266 = .ok (.iadd, 1) := by decide +kernel
theorem dL_law_267 : decode cL_law 267 = .ok (.iaload, 1) := by decide +kernel
theorem dL_law_268 : decode cL_law 268 = .ok (.aload_n 0, 1) := by decide +kernel
theorem dL_law_269 : decode cL_law 269 = .ok (.iload_n 3, 1) := by decide +kernel
end
section
set_option maxRecDepth 100000
theorem dL_law_270 : decode cL_law 270 = .ok (.iconst 2, 1) := by decide +kernel
theorem dL_law_271 : decode cL_law 271 = .ok (.iadd, 1) := by decide +kernel
theorem dL_law_272 : decode cL_law 272 = .ok (.iaload, 1) := by decide +kernel
theorem dL_law_273 : decode cL_law 273 = .ok (.invokevirtual 35, 3) := by decide +kernel
theorem dL_law_276 : decode cL_law 276 = .ok (.if_icmp .eq 476, 3) := by decide +kernel
theorem dL_law_279 : decode cL_law 279 = .ok (.iconst 0, 1) := by decide +kernel
theorem dL_law_280 : decode cL_law 280 = .ok (.ireturn, 1) := by decide +kernel
theorem dL_law_281 : decode cL_law 281 = .ok (.aload_n 1, 1) := by decide +kernel
theorem dL_law_282 : decode cL_law 282 = .ok (.invokevirtual 36, 3) := by decide +kernel
theorem dL_law_285 : decode cL_law 285 = .ok (.aload_n 2, 1) := by decide +kernel
theorem dL_law_286 : decode cL_law 286 = .ok (.invokevirtual 40, 3) := by decide +kernel
theorem dL_law_289 : decode cL_law 289 = .ok (.if_icmp .eq 463, 3) := by decide +kernel
theorem dL_law_292 : decode cL_law 292 = .ok (.iconst 0, 1) := by decide +kernel
theorem dL_law_293 : decode cL_law 293 = .ok (.ireturn, 1) := by decide +kernel
theorem dL_law_294 : decode cL_law 294 = .ok (.aload_n 1, 1) := by decide +kernel
theorem dL_law_295 : decode cL_law 295 = .ok (.invokevirtual 41, 3) := by decide +kernel
theorem dL_law_298 : decode cL_law 298 = .ok (.aload_n 2, 1) := by decide +kernel
theorem dL_law_299 : decode cL_law 299 = .ok (.invokevirtual 44, 3) := by decide +kernel
theorem dL_law_302 : decode cL_law 302 = .ok (.if_icmp .eq 450, 3) := by decide +kernel
theorem dL_law_305 : decode cL_law 305 = .ok (.iconst 0, 1) := by decide +kernel
theorem dL_law_306 : decode cL_law 306 = .ok (.ireturn, 1) := by decide +kernel
theorem dL_law_307 : decode cL_law 307 = .ok (.aload_n 1, 1) := by decide +kernel
theorem dL_law_308 : decode cL_law 308 = .ok (.invokevirtual 45, 3) := by decide +kernel
theorem dL_law_311 : decode cL_law 311 = .ok (.aload_n 2, 1) := by decide +kernel
theorem dL_law_312 : decode cL_law 312 = .ok (.invokevirtual 48, 3) := by decide +kernel
theorem dL_law_315 : decode cL_law 315 = .ok (.if_icmp .eq 437, 3) := by decide +kernel
theorem dL_law_318 : decode cL_law 318 = .ok (.iconst 0, 1) := by decide +kernel
theorem dL_law_319 : decode cL_law 319 = .ok (.ireturn, 1) := by decide +kernel
theorem dL_law_320 : decode cL_law 320 = .ok (.aload_n 1, 1) := by decide +kernel
theorem dL_law_321 : decode cL_law 321 = .ok (.aload_n 0, 1) := by decide +kernel
theorem dL_law_322 : decode cL_law 322 = .ok (.iload_n 3, 1) := by decide +kernel
theorem dL_law_323 : decode cL_law 323 = .ok (.iconst 1, 1) := by decide +kernel
theorem dL_law_324 : decode cL_law 324 = .ok (.iadd, 1) := by decide +kernel
theorem dL_law_325 : decode cL_law 325 = .ok (.iaload, 1) := by decide +kernel
theorem dL_law_326 : decode cL_law 326 = .ok (.aload_n 0, 1) := by decide +kernel
theorem dL_law_327 : decode cL_law 327 = .ok (.iload_n 3, 1) := by decide +kernel
theorem dL_law_328 : decode cL_law 328 = .ok (.iconst 2, 1) := by decide +kernel
theorem dL_law_329 : decode cL_law 329 = .ok (.iadd, 1) := by decide +kernel
theorem dL_law_330 : decode cL_law 330 = .ok (.iaload, 1) := by decide +kernel
theorem dL_law_331 : decode cL_law 331 = .ok (.aload_n 0, 1) := by decide +kernel
theorem dL_law_332 : decode cL_law 332 = .ok (.iload_n 3, 1) := by decide +kernel
theorem dL_law_333 : decode cL_law 333 = .ok (.iconst 3, 1) := by decide +kernel
theorem dL_law_334 : decode cL_law 334 = .ok (.iadd, 1) := by decide +kernel
theorem dL_law_335 : decode cL_law 335 = .ok (.iaload, 1) := by decide +kernel
theorem dL_law_336 : decode cL_law 336 = .ok (.invokevirtual 49, 3) := by decide +kernel
theorem dL_law_339 : decode cL_law 339 = .ok (.aload_n 2, 1) := by decide +kernel
theorem dL_law_340 : decode cL_law 340 = .ok (.aload_n 0, 1) := by decide +kernel
theorem dL_law_341 : decode cL_law 341 = .ok (.iload_n 3, 1) := by decide +kernel
theorem dL_law_342 : decode cL_law 342 = .ok (.iconst 1, 1) := by decide +kernel
theorem dL_law_343 : decode cL_law 343 = .ok (.iadd, 1) := by decide +kernel
theorem dL_law_344 : decode cL_law 344 = .ok (.iaload, 1) := by decide +kernel
theorem dL_law_345 : decode cL_law 345 = .ok (.aload_n 0, 1) := by decide +kernel
theorem dL_law_346 : decode cL_law 346 = .ok (.iload_n 3, 1) := by decide +kernel
theorem dL_law_347 : decode cL_law 347 = .ok (.iconst 2, 1) := by decide +kernel
theorem dL_law_348 : decode cL_law 348 = .ok (.iadd, 1) := by decide +kernel
theorem dL_law_349 : decode cL_law 349 = .ok (.iaload, 1) := by decide +kernel
theorem dL_law_350 : decode cL_law 350 = .ok (.aload_n 0, 1) := by decide +kernel
theorem dL_law_351 : decode cL_law 351 = .ok (.iload_n 3, 1) := by decide +kernel
theorem dL_law_352 : decode cL_law 352 = .ok (.iconst 3, 1) := by decide +kernel
theorem dL_law_353 : decode cL_law 353 = .ok (.iadd, 1) := by decide +kernel
theorem dL_law_354 : decode cL_law 354 = .ok (.iaload, 1) := by decide +kernel
theorem dL_law_355 : decode cL_law 355 = .ok (.invokevirtual 52, 3) := by decide +kernel
theorem dL_law_358 : decode cL_law 358 = .ok (.if_icmp .eq 394, 3) := by decide +kernel
theorem dL_law_361 : decode cL_law 361 = .ok (.iconst 0, 1) := by decide +kernel
theorem dL_law_362 : decode cL_law 362 = .ok (.ireturn, 1) := by decide +kernel
theorem dL_law_363 : decode cL_law 363 = .ok (.aload_n 1, 1) := by decide +kernel
theorem dL_law_364 : decode cL_law 364 = .ok (.aload_n 0, 1) := by decide +kernel
theorem dL_law_365 : decode cL_law 365 = .ok (.iload_n 3, 1) := by decide +kernel
theorem dL_law_366 : decode cL_law 366 = .ok (.iconst 1, 1) := by decide +kernel
theorem dL_law_367 : decode cL_law 367 = .ok (.iadd, 1) := by decide +kernel
theorem dL_law_368 : decode cL_law 368 = .ok (.iaload, 1) := by decide +kernel
theorem dL_law_369 : decode cL_law 369 = .ok (.aload_n 0, 1) := by decide +kernel
theorem dL_law_370 : decode cL_law 370 = .ok (.iload_n 3, 1) := by decide +kernel
theorem dL_law_371 : decode cL_law 371 = .ok (.iconst 2, 1) := by decide +kernel
theorem dL_law_372 : decode cL_law 372 = .ok (.iadd, 1) := by decide +kernel
theorem dL_law_373 : decode cL_law 373 = .ok (.iaload, 1) := by decide +kernel
theorem dL_law_374 : decode cL_law 374 = .ok (.aload_n 0, 1) := by decide +kernel
theorem dL_law_375 : decode cL_law 375 = .ok (.iload_n 3, 1) := by decide +kernel
theorem dL_law_376 : decode cL_law 376 = .ok (.iconst 3, 1) := by decide +kernel
theorem dL_law_377 : decode cL_law 377 = .ok (.iadd, 1) := by decide +kernel
theorem dL_law_378 : decode cL_law 378 = .ok (.iaload, 1) := by decide +kernel
theorem dL_law_379 : decode cL_law 379 = .ok (.invokevirtual 53, 3) := by decide +kernel
theorem dL_law_382 : decode cL_law 382 = .ok (.aload_n 2, 1) := by decide +kernel
theorem dL_law_383 : decode cL_law 383 = .ok (.aload_n 0, 1) := by decide +kernel
theorem dL_law_384 : decode cL_law 384 = .ok (.iload_n 3, 1) := by decide +kernel
theorem dL_law_385 : decode cL_law 385 = .ok (.iconst 1, 1) := by decide +kernel
theorem dL_law_386 : decode cL_law 386 = .ok (.iadd, 1) := by decide +kernel
theorem dL_law_387 : decode cL_law 387 = .ok (.iaload, 1) := by decide +kernel
theorem dL_law_388 : decode cL_law 388 = .ok (.aload_n 0, 1) := by decide +kernel
theorem dL_law_389 : decode cL_law 389 = .ok (.iload_n 3, 1) := by decide +kernel
theorem dL_law_390 : decode cL_law 390 = .ok (.iconst 2, 1) := by decide +kernel
theorem dL_law_391 : decode cL_law 391 = .ok (.iadd, 1) := by decide +kernel
theorem dL_law_392 : decode cL_law 392 = .ok (.iaload, 1) := by decide +kernel
theorem dL_law_393 : decode cL_law 393 = .ok (.aload_n 0, 1) := by decide +kernel
theorem dL_law_394 : decode cL_law 394 = .ok (.iload_n 3, 1) := by decide +kernel
theorem dL_law_395 : decode cL_law 395 = .ok (.iconst 3, 1) := by decide +kernel
theorem dL_law_396 : decode cL_law 396 = .ok (.iadd, 1) := by decide +kernel
theorem dL_law_397 : decode cL_law 397 = .ok (.iaload, 1) := by decide +kernel
theorem dL_law_398 : decode cL_law 398 = .ok (.invokevirtual 56, 3) := by decide +kernel
theorem dL_law_401 : decode cL_law 401 = .ok (.if_icmp .eq 351, 3) := by decide +kernel
theorem dL_law_404 : decode cL_law 404 = .ok (.iconst 0, 1) := by decide +kernel
theorem dL_law_405 : decode cL_law 405 = .ok (.ireturn, 1) := by decide +kernel
theorem dL_law_406 : decode cL_law 406 = .ok (.aload_n 1, 1) := by decide +kernel
theorem dL_law_407 : decode cL_law 407 = .ok (.aload_n 0, 1) := by decide +kernel
theorem dL_law_408 : decode cL_law 408 = .ok (.iload_n 3, 1) := by decide +kernel
theorem dL_law_409 : decode cL_law 409 = .ok (.iconst 1, 1) := by decide +kernel
theorem dL_law_410 : decode cL_law 410 = .ok (.iadd, 1) := by decide +kernel
theorem dL_law_411 : decode cL_law 411 = .ok (.iaload, 1) := by decide +kernel
theorem dL_law_412 : decode cL_law 412 = .ok (.invokevirtual 57, 3) := by decide +kernel
theorem dL_law_415 : decode cL_law 415 = .ok (.aload_n 2, 1) := by decide +kernel
theorem dL_law_416 : decode cL_law 416 = .ok (.aload_n 0, 1) := by decide +kernel
theorem dL_law_417 : decode cL_law 417 = .ok (.iload_n 3, 1) := by decide +kernel
theorem dL_law_418 : decode cL_law 418 = .ok (.iconst 1, 1) := by decide +kernel
theorem dL_law_419 : decode cL_law 419 = .ok (.iadd, 1) := by decide +kernel
theorem dL_law_420 : decode cL_law 420 = .ok (.iaload, 1) := by decide +kernel
theorem dL_law_421 : decode cL_law 421 = .ok (.invokevirtual 60, 3) := by decide +kernel
theorem dL_law_424 : decode cL_law 424 = .ok (.if_icmp .eq 328, 3) := by decide +kernel
theorem dL_law_427 : decode cL_law 427 = .ok (.iconst 0, 1) := by decide +kernel
theorem dL_law_428 : decode cL_law 428 = .ok (.ireturn, 1) := by decide +kernel
theorem dL_law_429 : decode cL_law 429 = .ok (.aload_n 1, 1) := by decide +kernel
theorem dL_law_430 : decode cL_law 430 = .ok (.aload_n 0, 1) := by decide +kernel
theorem dL_law_431 : decode cL_law 431 = .ok (.iload_n 3, 1) := by decide +kernel
theorem dL_law_432 : decode cL_law 432 = .ok (.iconst 1, 1) := by decide +kernel
theorem dL_law_433 : decode cL_law 433 = .ok (.iadd, 1) := by decide +kernel
theorem dL_law_434 : decode cL_law 434 = .ok (.iaload, 1) := by decide +kernel
theorem dL_law_435 : decode cL_law 435 = .ok (.aload_n 0, 1) := by decide +kernel
theorem dL_law_436 : decode cL_law 436 = .ok (.iload_n 3, 1) := by decide +kernel
theorem dL_law_437 : decode cL_law 437 = .ok (.iconst 2, 1) := by decide +kernel
theorem dL_law_438 : decode cL_law 438 = .ok (.iadd, 1) := by decide +kernel
theorem dL_law_439 : decode cL_law 439 = .ok (.iaload, 1) := by decide +kernel
end
section
set_option maxRecDepth 100000
theorem dL_law_440 : decode cL_law 440 = .ok (.invokevirtual 61, 3) := by decide +kernel
theorem dL_law_443 : decode cL_law 443 = .ok (.aload_n 2, 1) := by decide +kernel
theorem dL_law_444 : decode cL_law 444 = .ok (.aload_n 0, 1) := by decide +kernel
theorem dL_law_445 : decode cL_law 445 = .ok (.iload_n 3, 1) := by decide +kernel
theorem dL_law_446 : decode cL_law 446 = .ok (.iconst 1, 1) := by decide +kernel
theorem dL_law_447 : decode cL_law 447 = .ok (.iadd, 1) := by decide +kernel
theorem dL_law_448 : decode cL_law 448 = .ok (.iaload, 1) := by decide +kernel
theorem dL_law_449 : decode cL_law 449 = .ok (.aload_n 0, 1) := by decide +kernel
theorem dL_law_450 : decode cL_law 450 = .ok (.iload_n 3, 1) := by decide +kernel
theorem dL_law_451 : decode cL_law 451 = .ok (.iconst 2, 1) := by decide +kernel
theorem dL_law_452 : decode cL_law 452 = .ok (.iadd, 1) := by decide +kernel
theorem dL_law_453 : decode cL_law 453 = .ok (.iaload, 1) := by decide +kernel
theorem dL_law_454 : decode cL_law 454 = .ok (.invokevirtual 64, 3) := by decide +kernel
theorem dL_law_457 : decode cL_law 457 = .ok (.if_icmp .eq 295, 3) := by decide +kernel
theorem dL_law_460 : decode cL_law 460 = .ok (.iconst 0, 1) := by decide +kernel
theorem dL_law_461 : decode cL_law 461 = .ok (.ireturn, 1) := by decide +kernel
theorem dL_law_462 : decode cL_law 462 = .ok (.aload_n 1, 1) := by decide +kernel
theorem dL_law_463 : decode cL_law 463 = .ok (.aload_n 0, 1) := by decide +kernel
theorem dL_law_464 : decode cL_law 464 = .ok (.iload_n 3, 1) := by decide +kernel
theorem dL_law_465 : decode cL_law 465 = .ok (.iconst 1, 1) := by decide +kernel
theorem dL_law_466 : decode cL_law 466 = .ok (.iadd, 1) := by decide +kernel
theorem dL_law_467 : decode cL_law 467 = .ok (.iaload, 1) := by decide +kernel
theorem dL_law_468 : decode cL_law 468 = .ok (.aload_n 0, 1) := by decide +kernel
theorem dL_law_469 : decode cL_law 469 = .ok (.iload_n 3, 1) := by decide +kernel
theorem dL_law_470 : decode cL_law 470 = .ok (.iconst 2, 1) := by decide +kernel
theorem dL_law_471 : decode cL_law 471 = .ok (.iadd, 1) := by decide +kernel
theorem dL_law_472 : decode cL_law 472 = .ok (.iaload, 1) := by decide +kernel
theorem dL_law_473 : decode cL_law 473 = .ok (.invokevirtual 65, 3) := by decide +kernel
theorem dL_law_476 : decode cL_law 476 = .ok (.aload_n 2, 1) := by decide +kernel
theorem dL_law_477 : decode cL_law 477 = .ok (.aload_n 0, 1) := by decide +kernel
theorem dL_law_478 : decode cL_law 478 = .ok (.iload_n 3, 1) := by decide +kernel
theorem dL_law_479 : decode cL_law 479 = .ok (.iconst 1, 1) := by decide +kernel
theorem dL_law_480 : decode cL_law 480 = .ok (.iadd, 1) := by decide +kernel
theorem dL_law_481 : decode cL_law 481 = .ok (.iaload, 1) := by decide +kernel
theorem dL_law_482 : decode cL_law 482 = .ok (.aload_n 0, 1) := by decide +kernel
theorem dL_law_483 : decode cL_law 483 = .ok (.iload_n 3, 1) := by decide +kernel
theorem dL_law_484 : decode cL_law 484 = .ok (.iconst 2, 1) := by decide +kernel
theorem dL_law_485 : decode cL_law 485 = .ok (.iadd, 1) := by decide +kernel
theorem dL_law_486 : decode cL_law 486 = .ok (.iaload, 1) := by decide +kernel
theorem dL_law_487 : decode cL_law 487 = .ok (.invokevirtual 68, 3) := by decide +kernel
theorem dL_law_490 : decode cL_law 490 = .ok (.if_icmp .eq 262, 3) := by decide +kernel
theorem dL_law_493 : decode cL_law 493 = .ok (.iconst 0, 1) := by decide +kernel
theorem dL_law_494 : decode cL_law 494 = .ok (.ireturn, 1) := by decide +kernel
theorem dL_law_495 : decode cL_law 495 = .ok (.aload_n 1, 1) := by decide +kernel
theorem dL_law_496 : decode cL_law 496 = .ok (.aload_n 0, 1) := by decide +kernel
theorem dL_law_497 : decode cL_law 497 = .ok (.iload_n 3, 1) := by decide +kernel
theorem dL_law_498 : decode cL_law 498 = .ok (.iconst 1, 1) := by decide +kernel
theorem dL_law_499 : decode cL_law 499 = .ok (.iadd, 1) := by decide +kernel
theorem dL_law_500 : decode cL_law 500 = .ok (.iaload, 1) := by decide +kernel
theorem dL_law_501 : decode cL_law 501 = .ok (.aload_n 0, 1) := by decide +kernel
theorem dL_law_502 : decode cL_law 502 = .ok (.iload_n 3, 1) := by decide +kernel
theorem dL_law_503 : decode cL_law 503 = .ok (.iconst 2, 1) := by decide +kernel
theorem dL_law_504 : decode cL_law 504 = .ok (.iadd, 1) := by decide +kernel
theorem dL_law_505 : decode cL_law 505 = .ok (.iaload, 1) := by decide +kernel
theorem dL_law_506 : decode cL_law 506 = .ok (.invokevirtual 69, 3) := by decide +kernel
theorem dL_law_509 : decode cL_law 509 = .ok (.aload_n 2, 1) := by decide +kernel
theorem dL_law_510 : decode cL_law 510 = .ok (.aload_n 0, 1) := by decide +kernel
theorem dL_law_511 : decode cL_law 511 = .ok (.iload_n 3, 1) := by decide +kernel
theorem dL_law_512 : decode cL_law 512 = .ok (.iconst 1, 1) := by decide +kernel
theorem dL_law_513 : decode cL_law 513 = .ok (.iadd, 1) := by decide +kernel
theorem dL_law_514 : decode cL_law 514 = .ok (.iaload, 1) := by decide +kernel
theorem dL_law_515 : decode cL_law 515 = .ok (.aload_n 0, 1) := by decide +kernel
theorem dL_law_516 : decode cL_law 516 = .ok (.iload_n 3, 1) := by decide +kernel
theorem dL_law_517 : decode cL_law 517 = .ok (.iconst 2, 1) := by decide +kernel
theorem dL_law_518 : decode cL_law 518 = .ok (.iadd, 1) := by decide +kernel
theorem dL_law_519 : decode cL_law 519 = .ok (.iaload, 1) := by decide +kernel
theorem dL_law_520 : decode cL_law 520 = .ok (.invokevirtual 72, 3) := by decide +kernel
theorem dL_law_523 : decode cL_law 523 = .ok (.if_icmp .eq 229, 3) := by decide +kernel
theorem dL_law_526 : decode cL_law 526 = .ok (.iconst 0, 1) := by decide +kernel
theorem dL_law_527 : decode cL_law 527 = .ok (.ireturn, 1) := by decide +kernel
theorem dL_law_528 : decode cL_law 528 = .ok (.aload_n 1, 1) := by decide +kernel
theorem dL_law_529 : decode cL_law 529 = .ok (.aload_n 0, 1) := by decide +kernel
theorem dL_law_530 : decode cL_law 530 = .ok (.iload_n 3, 1) := by decide +kernel
theorem dL_law_531 : decode cL_law 531 = .ok (.iconst 1, 1) := by decide +kernel
theorem dL_law_532 : decode cL_law 532 = .ok (.iadd, 1) := by decide +kernel
theorem dL_law_533 : decode cL_law 533 = .ok (.iaload, 1) := by decide +kernel
theorem dL_law_534 : decode cL_law 534 = .ok (.invokevirtual 73, 3) := by decide +kernel
theorem dL_law_537 : decode cL_law 537 = .ok (.aload_n 2, 1) := by decide +kernel
theorem dL_law_538 : decode cL_law 538 = .ok (.aload_n 0, 1) := by decide +kernel
theorem dL_law_539 : decode cL_law 539 = .ok (.iload_n 3, 1) := by decide +kernel
theorem dL_law_540 : decode cL_law 540 = .ok (.iconst 1, 1) := by decide +kernel
theorem dL_law_541 : decode cL_law 541 = .ok (.iadd, 1) := by decide +kernel
theorem dL_law_542 : decode cL_law 542 = .ok (.iaload, 1) := by decide +kernel
theorem dL_law_543 : decode cL_law 543 = .ok (.invokevirtual 76, 3) := by decide +kernel
theorem dL_law_546 : decode cL_law 546 = .ok (.if_icmp .eq 206, 3) := by decide +kernel
theorem dL_law_549 : decode cL_law 549 = .ok (.iconst 0, 1) := by decide +kernel
theorem dL_law_550 : decode cL_law 550 = .ok (.ireturn, 1) := by decide +kernel
theorem dL_law_551 : decode cL_law 551 = .ok (.aload_n 1, 1) := by decide +kernel
theorem dL_law_552 : decode cL_law 552 = .ok (.aload_n 0, 1) := by decide +kernel
theorem dL_law_553 : decode cL_law 553 = .ok (.iload_n 3, 1) := by decide +kernel
theorem dL_law_554 : decode cL_law 554 = .ok (.iconst 1, 1) := by decide +kernel
theorem dL_law_555 : decode cL_law 555 = .ok (.iadd, 1) := by decide +kernel
theorem dL_law_556 : decode cL_law 556 = .ok (.iaload, 1) := by decide +kernel
theorem dL_law_557 : decode cL_law 557 = .ok (.aload_n 0, 1) := by decide +kernel
theorem dL_law_558 : decode cL_law 558 = .ok (.iload_n 3, 1) := by decide +kernel
theorem dL_law_559 : decode cL_law 559 = .ok (.iconst 2, 1) := by decide +kernel
theorem dL_law_560 : decode cL_law 560 = .ok (.iadd, 1) := by decide +kernel
theorem dL_law_561 : decode cL_law 561 = .ok (.iaload, 1) := by decide +kernel
theorem dL_law_562 : decode cL_law 562 = .ok (.invokevirtual 77, 3) := by decide +kernel
theorem dL_law_565 : decode cL_law 565 = .ok (.aload_n 2, 1) := by decide +kernel
theorem dL_law_566 : decode cL_law 566 = .ok (.aload_n 0, 1) := by decide +kernel
theorem dL_law_567 : decode cL_law 567 = .ok (.iload_n 3, 1) := by decide +kernel
theorem dL_law_568 : decode cL_law 568 = .ok (.iconst 1, 1) := by decide +kernel
theorem dL_law_569 : decode cL_law 569 = .ok (.iadd, 1) := by decide +kernel
theorem dL_law_570 : decode cL_law 570 = .ok (.iaload, 1) := by decide +kernel
theorem dL_law_571 : decode cL_law 571 = .ok (.aload_n 0, 1) := by decide +kernel
theorem dL_law_572 : decode cL_law 572 = .ok (.iload_n 3, 1) := by decide +kernel
theorem dL_law_573 : decode cL_law 573 = .ok (.iconst 2, 1) := by decide +kernel
theorem dL_law_574 : decode cL_law 574 = .ok (.iadd, 1) := by decide +kernel
theorem dL_law_575 : decode cL_law 575 = .ok (.iaload, 1) := by decide +kernel
theorem dL_law_576 : decode cL_law 576 = .ok (.invokevirtual 80, 3) := by decide +kernel
theorem dL_law_579 : decode cL_law 579 = .ok (.if_icmp .eq 173, 3) := by decide +kernel
theorem dL_law_582 : decode cL_law 582 = .ok (.iconst 0, 1) := by decide +kernel
theorem dL_law_583 : decode cL_law 583 = .ok (.ireturn, 1) := by decide +kernel
theorem dL_law_584 : decode cL_law 584 = .ok (.aload_n 1, 1) := by decide +kernel
theorem dL_law_585 : decode cL_law 585 = .ok (.aload_n 0, 1) := by decide +kernel
theorem dL_law_586 : decode cL_law 586 = .ok (.iload_n 3, 1) := by decide +kernel
theorem dL_law_587 : decode cL_law 587 = .ok (.iconst 1, 1) := by decide +kernel
theorem dL_law_588 : decode cL_law 588 = .ok (.iadd, 1) := by decide +kernel
theorem dL_law_589 : decode cL_law 589 = .ok (.iaload, 1) := by decide +kernel
theorem dL_law_590 : decode cL_law 590 = .ok (.invokevirtual 81, 3) := by decide +kernel
theorem dL_law_593 : decode cL_law 593 = .ok (.aload_n 2, 1) := by decide +kernel
theorem dL_law_594 : decode cL_law 594 = .ok (.aload_n 0, 1) := by decide +kernel
theorem dL_law_595 : decode cL_law 595 = .ok (.iload_n 3, 1) := by decide +kernel
theorem dL_law_596 : decode cL_law 596 = .ok (.iconst 1, 1) := by decide +kernel
theorem dL_law_597 : decode cL_law 597 = .ok (.iadd, 1) := by decide +kernel
theorem dL_law_598 : decode cL_law 598 = .ok (.iaload, 1) := by decide +kernel
theorem dL_law_599 : decode cL_law 599 = .ok (.invokevirtual 84, 3) := by decide +kernel
theorem dL_law_602 : decode cL_law 602 = .ok (.if_icmp .eq 150, 3) := by decide +kernel
theorem dL_law_605 : decode cL_law 605 = .ok (.iconst 0, 1) := by decide +kernel
end
section
set_option maxRecDepth 100000
theorem dL_law_606 : decode cL_law 606 = .ok (.ireturn, 1) := by decide +kernel
theorem dL_law_607 : decode cL_law 607 = .ok (.aload_n 1, 1) := by decide +kernel
theorem dL_law_608 : decode cL_law 608 = .ok (.aload_n 0, 1) := by decide +kernel
theorem dL_law_609 : decode cL_law 609 = .ok (.iload_n 3, 1) := by decide +kernel
theorem dL_law_610 : decode cL_law 610 = .ok (.iconst 1, 1) := by decide +kernel
theorem dL_law_611 : decode cL_law 611 = .ok (.iadd, 1) := by decide +kernel
theorem dL_law_612 : decode cL_law 612 = .ok (.iaload, 1) := by decide +kernel
theorem dL_law_613 : decode cL_law 613 = .ok (.aload_n 0, 1) := by decide +kernel
theorem dL_law_614 : decode cL_law 614 = .ok (.iload_n 3, 1) := by decide +kernel
theorem dL_law_615 : decode cL_law 615 = .ok (.iconst 2, 1) := by decide +kernel
theorem dL_law_616 : decode cL_law 616 = .ok (.iadd, 1) := by decide +kernel
theorem dL_law_617 : decode cL_law 617 = .ok (.iaload, 1) := by decide +kernel
theorem dL_law_618 : decode cL_law 618 = .ok (.aload_n 0, 1) := by decide +kernel
theorem dL_law_619 : decode cL_law 619 = .ok (.iload_n 3, 1) := by decide +kernel
theorem dL_law_620 : decode cL_law 620 = .ok (.iconst 3, 1) := by decide +kernel
theorem dL_law_621 : decode cL_law 621 = .ok (.iadd, 1) := by decide +kernel
theorem dL_law_622 : decode cL_law 622 = .ok (.iaload, 1) := by decide +kernel
theorem dL_law_623 : decode cL_law 623 = .ok (.invokevirtual 85, 3) := by decide +kernel
theorem dL_law_626 : decode cL_law 626 = .ok (.aload_n 2, 1) := by decide +kernel
theorem dL_law_627 : decode cL_law 627 = .ok (.aload_n 0, 1) := by decide +kernel
theorem dL_law_628 : decode cL_law 628 = .ok (.iload_n 3, 1) := by decide +kernel
theorem dL_law_629 : decode cL_law 629 = .ok (.iconst 1, 1) := by decide +kernel
theorem dL_law_630 : decode cL_law 630 = .ok (.iadd, 1) := by decide +kernel
theorem dL_law_631 : decode cL_law 631 = .ok (.iaload, 1) := by decide +kernel
theorem dL_law_632 : decode cL_law 632 = .ok (.aload_n 0, 1) := by decide +kernel
theorem dL_law_633 : decode cL_law 633 = .ok (.iload_n 3, 1) := by decide +kernel
theorem dL_law_634 : decode cL_law 634 = .ok (.iconst 2, 1) := by decide +kernel
theorem dL_law_635 : decode cL_law 635 = .ok (.iadd, 1) := by decide +kernel
theorem dL_law_636 : decode cL_law 636 = .ok (.iaload, 1) := by decide +kernel
theorem dL_law_637 : decode cL_law 637 = .ok (.aload_n 0, 1) := by decide +kernel
theorem dL_law_638 : decode cL_law 638 = .ok (.iload_n 3, 1) := by decide +kernel
theorem dL_law_639 : decode cL_law 639 = .ok (.iconst 3, 1) := by decide +kernel
theorem dL_law_640 : decode cL_law 640 = .ok (.iadd, 1) := by decide +kernel
theorem dL_law_641 : decode cL_law 641 = .ok (.iaload, 1) := by decide +kernel
theorem dL_law_642 : decode cL_law 642 = .ok (.invokevirtual 88, 3) := by decide +kernel
theorem dL_law_645 : decode cL_law 645 = .ok (.if_icmp .eq 107, 3) := by decide +kernel
theorem dL_law_648 : decode cL_law 648 = .ok (.iconst 0, 1) := by decide +kernel
theorem dL_law_649 : decode cL_law 649 = .ok (.ireturn, 1) := by decide +kernel
theorem dL_law_650 : decode cL_law 650 = .ok (.aload_n 1, 1) := by decide +kernel
theorem dL_law_651 : decode cL_law 651 = .ok (.aload_n 0, 1) := by decide +kernel
theorem dL_law_652 : decode cL_law 652 = .ok (.iload_n 3, 1) := by decide +kernel
theorem dL_law_653 : decode cL_law 653 = .ok (.iconst 1, 1) := by decide +kernel
theorem dL_law_654 : decode cL_law 654 = .ok (.iadd, 1) := by decide +kernel
theorem dL_law_655 : decode cL_law 655 = .ok (.iaload, 1) := by decide +kernel
theorem dL_law_656 : decode cL_law 656 = .ok (.aload_n 0, 1) := by decide +kernel
theorem dL_law_657 : decode cL_law 657 = .ok (.iload_n 3, 1) := by decide +kernel
theorem dL_law_658 : decode cL_law 658 = .ok (.iconst 2, 1) := by decide +kernel
theorem dL_law_659 : decode cL_law 659 = .ok (.iadd, 1) := by decide +kernel
theorem dL_law_660 : decode cL_law 660 = .ok (.iaload, 1) := by decide +kernel
theorem dL_law_661 : decode cL_law 661 = .ok (.invokevirtual 89, 3) := by decide +kernel
theorem dL_law_664 : decode cL_law 664 = .ok (.aload_n 2, 1) := by decide +kernel
theorem dL_law_665 : decode cL_law 665 = .ok (.aload_n 0, 1) := by decide +kernel
theorem dL_law_666 : decode cL_law 666 = .ok (.iload_n 3, 1) := by decide +kernel
theorem dL_law_667 : decode cL_law 667 = .ok (.iconst 1, 1) := by decide +kernel
theorem dL_law_668 : decode cL_law 668 = .ok (.iadd, 1) := by decide +kernel
theorem dL_law_669 : decode cL_law 669 = .ok (.iaload, 1) := by decide +kernel
theorem dL_law_670 : decode cL_law 670 = .ok (.aload_n 0, 1) := by decide +kernel
theorem dL_law_671 : decode cL_law 671 = .ok (.iload_n 3, 1) := by decide +kernel
theorem dL_law_672 : decode cL_law 672 = .ok (.iconst 2, 1) := by decide +kernel
theorem dL_law_673 : decode cL_law 673 = .ok (.iadd, 1) := by decide +kernel
theorem dL_law_674 : decode cL_law 674 = .ok (.iaload, 1) := by decide +kernel
theorem dL_law_675 : decode cL_law 675 = .ok (.invokevirtual 92, 3) := by decide +kernel
theorem dL_law_678 : decode cL_law 678 = .ok (.if_icmp .eq 74, 3) := by decide +kernel
theorem dL_law_681 : decode cL_law 681 = .ok (.iconst 0, 1) := by decide +kernel
theorem dL_law_682 : decode cL_law 682 = .ok (.ireturn, 1) := by decide +kernel
theorem dL_law_683 : decode cL_law 683 = .ok (.aload_n 1, 1) := by decide +kernel
theorem dL_law_684 : decode cL_law 684 = .ok (.aload_n 0, 1) := by decide +kernel
theorem dL_law_685 : decode cL_law 685 = .ok (.iload_n 3, 1) := by decide +kernel
theorem dL_law_686 : decode cL_law 686 = .ok (.iconst 1, 1) := by decide +kernel
theorem dL_law_687 : decode cL_law 687 = .ok (.iadd, 1) := by decide +kernel
theorem dL_law_688 : decode cL_law 688 = .ok (.iaload, 1) := by decide +kernel
theorem dL_law_689 : decode cL_law 689 = .ok (.invokevirtual 93, 3) := by decide +kernel
theorem dL_law_692 : decode cL_law 692 = .ok (.aload_n 2, 1) := by decide +kernel
theorem dL_law_693 : decode cL_law 693 = .ok (.aload_n 0, 1) := by decide +kernel
theorem dL_law_694 : decode cL_law 694 = .ok (.iload_n 3, 1) := by decide +kernel
theorem dL_law_695 : decode cL_law 695 = .ok (.iconst 1, 1) := by decide +kernel
theorem dL_law_696 : decode cL_law 696 = .ok (.iadd, 1) := by decide +kernel
theorem dL_law_697 : decode cL_law 697 = .ok (.iaload, 1) := by decide +kernel
theorem dL_law_698 : decode cL_law 698 = .ok (.invokevirtual 96, 3) := by decide +kernel
theorem dL_law_701 : decode cL_law 701 = .ok (.if_icmp .eq 51, 3) := by decide +kernel
theorem dL_law_704 : decode cL_law 704 = .ok (.iconst 0, 1) := by decide +kernel
theorem dL_law_705 : decode cL_law 705 = .ok (.ireturn, 1) := by decide +kernel
theorem dL_law_706 : decode cL_law 706 = .ok (.aload_n 1, 1) := by decide +kernel
theorem dL_law_707 : decode cL_law 707 = .ok (.aload_n 0, 1) := by decide +kernel
theorem dL_law_708 : decode cL_law 708 = .ok (.iload_n 3, 1) := by decide +kernel
theorem dL_law_709 : decode cL_law 709 = .ok (.iconst 1, 1) := by decide +kernel
theorem dL_law_710 : decode cL_law 710 = .ok (.iadd, 1) := by decide +kernel
theorem dL_law_711 : decode cL_law 711 = .ok (.iaload, 1) := by decide +kernel
theorem dL_law_712 : decode cL_law 712 = .ok (.aload_n 0, 1) := by decide +kernel
theorem dL_law_713 : decode cL_law 713 = .ok (.iload_n 3, 1) := by decide +kernel
theorem dL_law_714 : decode cL_law 714 = .ok (.iconst 2, 1) := by decide +kernel
theorem dL_law_715 : decode cL_law 715 = .ok (.iadd, 1) := by decide +kernel
theorem dL_law_716 : decode cL_law 716 = .ok (.iaload, 1) := by decide +kernel
theorem dL_law_717 : decode cL_law 717 = .ok (.invokevirtual 97, 3) := by decide +kernel
theorem dL_law_720 : decode cL_law 720 = .ok (.aload_n 2, 1) := by decide +kernel
theorem dL_law_721 : decode cL_law 721 = .ok (.aload_n 0, 1) := by decide +kernel
theorem dL_law_722 : decode cL_law 722 = .ok (.iload_n 3, 1) := by decide +kernel
theorem dL_law_723 : decode cL_law 723 = .ok (.iconst 1, 1) := by decide +kernel
theorem dL_law_724 : decode cL_law 724 = .ok (.iadd, 1) := by decide +kernel
theorem dL_law_725 : decode cL_law 725 = .ok (.iaload, 1) := by decide +kernel
theorem dL_law_726 : decode cL_law 726 = .ok (.aload_n 0, 1) := by decide +kernel
theorem dL_law_727 : decode cL_law 727 = .ok (.iload_n 3, 1) := by decide +kernel
theorem dL_law_728 : decode cL_law 728 = .ok (.iconst 2, 1) := by decide +kernel
theorem dL_law_729 : decode cL_law 729 = .ok (.iadd, 1) := by decide +kernel
theorem dL_law_730 : decode cL_law 730 = .ok (.iaload, 1) := by decide +kernel
theorem dL_law_731 : decode cL_law 731 = .ok (.invokevirtual 100, 3) := by decide +kernel
theorem dL_law_734 : decode cL_law 734 = .ok (.if_icmp .eq 18, 3) := by decide +kernel
theorem dL_law_737 : decode cL_law 737 = .ok (.iconst 0, 1) := by decide +kernel
theorem dL_law_738 : decode cL_law 738 = .ok (.ireturn, 1) := by decide +kernel
theorem dL_law_739 : decode cL_law 739 = .ok (.aload_n 1, 1) := by decide +kernel
theorem dL_law_740 : decode cL_law 740 = .ok (.invokevirtual 101, 3) := by decide +kernel
theorem dL_law_743 : decode cL_law 743 = .ok (.aload_n 2, 1) := by decide +kernel
theorem dL_law_744 : decode cL_law 744 = .ok (.invokevirtual 104, 3) := by decide +kernel
theorem dL_law_747 : decode cL_law 747 = .ok (.if_icmp .eq 5, 3) := by decide +kernel
theorem dL_law_750 : decode cL_law 750 = .ok (.iconst 0, 1) := by decide +kernel
theorem dL_law_751 : decode cL_law 751 = .ok (.ireturn, 1) := by decide +kernel
theorem dL_law_752 : decode cL_law 752 = .ok (.iinc 3 4, 3) := by decide +kernel
theorem dL_law_755 : decode cL_law 755 = .ok (.goto (-737), 3) := by decide +kernel
theorem dL_law_758 : decode cL_law 758 = .ok (.iconst 1, 1) := by decide +kernel
theorem dL_law_759 : decode cL_law 759 = .ok (.ireturn, 1) := by decide +kernel
end
section
set_option maxRecDepth 100000
/-! THE CLAIM OUT OF ONE WALK OF THE LAW'S BODY. Your part is whole_start (and what it stands on); all else here is the same for every law, but numbers. -/
def R_law : String := "TapeSamplerLaw"
def lw_P (b : Addr) (xs : List Int32) (args : Array Value) (s : State) : Prop := args = #[.ref b] ∧ s.IntsAt b xs ∧ xs.length ≤ 256 ∧ (Jvm.Cond.and given_1 narrow_1).before args s = true
def lw_Q (_ : Array Value) (s : State) (o : Outcome) (t : State) : Prop := o = .returned (some (.int 1)) ∧ Framed s o t [] 600000 7290000
def lw_Z (below : List Frame) (a : Array Value) (s : State) : State → Prop := fun t => ∃ o, t.status = .running ∧ Ended t below o ∧ lw_Q a s o t
/-- the law's own end, with 1 on the stack, nothing written that was there before, its room as the claim has it -/
theorem lw_ret {p : Program} {l : Launch} {e : Env} {s : State} {m : MethodId} {below : List Frame} {meth : Method} {c : Code} {b : Nat} (hx : p.tables.exec = Jvm.exec) (hb : c.code = code) (hr : meth.sig.returnType = ret) (hlocks : meth.locks = false) {pc : Nat} {H : Heap} {ls : Array Slot} (hdg : decode code pc = .ok (.ireturn, 1)) : W p l e room_1 s m #[Value.ref b] below meth c H [] 600000 7290000 (lw_Z below #[Value.ref b] s) (F0 m pc ls [.int 1]) := by
  intro T hT X
  obtain ⟨fs, hret, hrun, hended, hW, hframe⟩ := X.leave (v := some (.int 1)) (hlocks := hlocks) (fun h => by rw [hr] at h; cases h)
  have hmeth' : T.vm.method? m = some meth := X.method'
  refine ⟨T.setFrames fs, ?_, .returned (some (.int 1)), hrun, hended, rfl, ⟨_, rfl⟩, hW, hframe⟩
  jvm_step X.here [X.here.top, hx, hb, hdg, hmeth', hr, ret, narrow_b1]
  (try refine ⟨rfl, ?_⟩); (try refine ⟨rfl, ?_⟩)
  first | (intro acts; rw [hret _ acts rfl rfl rfl]) | rw [hret _ _ rfl rfl rfl]
  exact Steps.refl _
/-- what holds at the law's entry: the machine, the code, the tables' words (any of lw_tbl by 'hts w (by decide +kernel)'), the script of L ints xs at the cell b, what the Statement gives of the start (any of its parts by flat_of_before) -/
def lw_At (p : Program) (s : State) (m : MethodId) (meth : Method) (c : Code) (b L : Nat) (xs : Nat → Int32) : Prop :=
  p.tables.exec = Jvm.exec ∧ c.code = code ∧ meth.sig.returnType = ret ∧ c.maxLocals = 4 ∧ s.vm.findClass R_law = some m.cls ∧ (∀ w ∈ lw_tbl, w.before #[Value.ref b] s = true) ∧ va_X b L xs s s.heap ∧ b < s.heap.size ∧ meth.locks = false ∧ (Jvm.Cond.and given_1 narrow_1).before #[Value.ref b] s = true
/-! calls out of the law: the callee's world beside another -/
section TZL
variable {p : Program} {l : Launch} {e : Env} {R : Room} {s : State} {m : MethodId} {args : Array Value} {below : List Frame} {meth : Method} {cd : Code} {H : Heap} {locs : List Loc} {cells slots : Nat} {Q : State → Prop}
variable {cc : ByteArray} {nL pc : Nat} {ls : Array Slot} {rest : List Value} {D : va_G} {A : Nat → Prop} {u u' v v' : tzS} {H0 : Heap} {own : String} {w : tzS → va_W} {ty tyA : List (ClassId × FieldType)} {r : Int32} {ws wr : va_W}
variable {C : String} {T : u_T} {N idx n ci b : Nat} {y : MethodName} {bytes : ByteArray} {maxL : Nat} {ret : FieldType} {rm : Room} {As : List Value} {fs : List Value}
theorem tz_cF (Z : tzC p s m args cd cc nL own D tyA) (Y : tzY D A H0 ws H locs) (hA : ∀ q : Nat, H0.size ≤ q → A q) (hcs : cells ≤ R.cells ∧ slots ≤ R.slots) (hM : tzMi l y bytes maxL ret rm D w ty (.ref b :: As) u r u') (isC isR : List Nat) (hC : isC.map (fun i => ws[i]?) = (w u).map some) (hC2 : isC.filterMap (fun i => ws[i]?) = w u) (hR : isR.map (fun i => ws[i]?) = wr.map some) (hnC : va_nd isC = true) (hnR : va_nd isR = true) (hdis : ∀ i ∈ isR, i ∉ isC) (hty : va_K D vwCl ty s)
    (hw : (w u)[0]? = some (b, .inr (ci, fs))) (hc : vwCl[ci]? = some (C, T, N)) (cw : CallW R s args own C idx y bytes maxL (some ret) (ws_ y bytes maxL (some ret)) rm 0 0 n) (hn : As.length = n) (hls : ls.size = nL) {st : List Value} (hst : st = As.reverse ++ .ref b :: rest) (hrest : (rest.map fun v => v.category).sum ≤ 8) (hdg : decode cc pc = .ok (.invokevirtual idx, 3))
    (kk : ∀ (H1 : Heap) (locs1 : List Loc), tzY D A H0 (wr ++ w u') H1 locs1 → W p l e R s m args below meth cd H1 locs1 cells slots Q (F0 m (pc + 3) ls (.int r :: rest))) : W p l e R s m args below meth cd H locs cells slots Q (F0 m pc ls st) := by
  obtain ⟨S, -⟩ := Z
  obtain ⟨hP, hD, hS⟩ := Y
  have hPc := hP.sub isC hC2
  have hDc : va_D A (w u) := hD.sub isC hnC hC
  have hFc := va_free (wc := w u) hD hS hA isC hC
  refine va_calli (va_runV S (hM H.size) cw ⟨tz_blind, va_recv hty hPc hc hw, fun U hU hW => ⟨rfl, by rw [hU], by rw [hU]; exact hPc, va_K.moved hW.alike hty, hDc.weaken (fun _ _ _ _ => trivial)⟩⟩ rfl hn hls hst (lv_room hrest) hdg hcs) hS (fun q _ h => hFc q h) hFc (fun r2 z t H1 locs1 ht hvm hp hB hz hk hS1 => ?_)
  obtain ⟨rfl, rfl⟩ := hp
  obtain ⟨hP1, -, hD1⟩ := hB
  rw [ht] at hP1
  obtain ⟨hP2, hD2⟩ := va_join (wr := wr) (w1 := w z) hP hD isC isR hC hR hnR hdis hk hFc hP1 hD1
  exact kk H1 locs1 ⟨hP2, hD2, hS1⟩
variable {a a' : Nat → Nat} {c c' : Nat → ClassId}
theorem tz_cL0 (Z : tzC p s m args cd cc nL own D (tX0 c ++ tX1 c')) (Y : tzY D A H0 (wX0 a c u ++ wX1 a' c' v) H locs) (hA : ∀ q : Nat, H0.size ≤ q → A q) (hcs : cells ≤ R.cells ∧ slots ≤ R.slots) (hM : tzMi l y bytes maxL ret rm D (wX0 a c) (tX0 c) (.ref (a 16) :: As) u r u')
    (cw : CallW R s args own RX0 idx y bytes maxL (some ret) (ws_ y bytes maxL (some ret)) rm 0 0 n) (hn : As.length = n) (hls : ls.size = nL) {st : List Value} (hst : st = As.reverse ++ .ref (a 16) :: rest) (hrest : (rest.map fun v => v.category).sum ≤ 8) (hdg : decode cc pc = .ok (.invokevirtual idx, 3))
    (kk : ∀ (H1 : Heap) (locs1 : List Loc), tzY D A H0 (wX1 a' c' v ++ wX0 a c u') H1 locs1 → W p l e R s m args below meth cd H1 locs1 cells slots Q (F0 m (pc + 3) ls (.int r :: rest))) : W p l e R s m args below meth cd H locs cells slots Q (F0 m pc ls st) :=
  tz_cF (ci := 0) (wr := wX1 a' c' v) Z Y hA hcs hM [0, 1, 2, 3, 4, 5, 6, 7, 8, 9, 10, 11, 12] [13, 14, 15, 16, 17, 18, 19, 20, 21, 22, 23, 24] rfl rfl rfl (by decide) (by decide) (by decide) (Z.2.sub [0, 1, 2, 3, 4, 5, 6, 7, 8, 9, 10, 11] rfl) rfl rfl cw hn hls hst hrest hdg kk
theorem tz_cL1 (Z : tzC p s m args cd cc nL own D (tX0 c ++ tX1 c')) (Y : tzY D A H0 (wX1 a' c' v ++ wX0 a c u) H locs) (hA : ∀ q : Nat, H0.size ≤ q → A q) (hcs : cells ≤ R.cells ∧ slots ≤ R.slots) (hM : tzMi l y bytes maxL ret rm D (wX1 a' c') (tX1 c') (.ref (a' 14) :: As) v r v')
    (cw : CallW R s args own RX1 idx y bytes maxL (some ret) (ws_ y bytes maxL (some ret)) rm 0 0 n) (hn : As.length = n) (hls : ls.size = nL) {st : List Value} (hst : st = As.reverse ++ .ref (a' 14) :: rest) (hrest : (rest.map fun v => v.category).sum ≤ 8) (hdg : decode cc pc = .ok (.invokevirtual idx, 3))
    (kk : ∀ (H1 : Heap) (locs1 : List Loc), tzY D A H0 (wX0 a c u ++ wX1 a' c' v') H1 locs1 → W p l e R s m args below meth cd H1 locs1 cells slots Q (F0 m (pc + 3) ls (.int r :: rest))) : W p l e R s m args below meth cd H locs cells slots Q (F0 m pc ls st) :=
  tz_cF (ci := 1) (wr := wX0 a c u) Z Y hA hcs hM [0, 1, 2, 3, 4, 5, 6, 7, 8, 9, 10, 11] [12, 13, 14, 15, 16, 17, 18, 19, 20, 21, 22, 23, 24] rfl rfl rfl (by decide) (by decide) (by decide) (Z.2.sub [12, 13, 14, 15, 16, 17, 18, 19, 20, 21, 22] rfl) rfl rfl cw hn hls hst hrest hdg kk
/-- a place of the script -/
theorem tz_sld (hx : p.tables.exec = Jvm.exec) (hb : cd.code = cc) {b L : Nat} {xs : Nat → Int32} (hX : va_X b L xs s H0) (hbl : b < H0.size) (hbA : ¬ A b) (Y : tzY D A H0 ws H locs) {i : Nat} {x : Int32} (h : tzat x i L) (hL : L ≤ 256) (hdg : decode cc pc = .ok (.iaload, 1))
    (kk : W p l e R s m args below meth cd H locs cells slots Q (F0 m (pc + 1) ls (.int (xs i) :: rest))) : W p l e R s m args below meth cd H locs cells slots Q (F0 m pc ls (.int x :: .ref b :: rest)) := by
  obtain ⟨rfl, hi⟩ := h
  have e1 : (nI i).toNatClampNeg = i := nI_clamp (by omega)
  refine va_sld hx hb hX hbl hbA Y.2.2 (vp_in_nI hi (by omega)) hdg ?_
  rw [e1]
  exact kk
end TZL
theorem tz_ai {i L : Nat} (h : 4 * i + 4 ≤ L) (j : Nat) (hj : j < 4) : tzat (nI (4 * i) + nI j) (4 * i + j) L := ⟨nI_add _ _, by omega⟩
theorem tz_hf {i L : Nat} (h : 4 * i + 4 ≤ L) (hL : L ≤ 256) : ¬ Int32.ofNat L - nI 4 < nI (4 * i) := by
  show ¬ nI L - nI 4 < nI (4 * i)
  rw [Int32.lt_iff_toInt_lt, pk_sub_toInt (by omega) (by decide), nI_toInt (by omega)]
  omega
theorem tz_ht {i L : Nat} (h : ¬ 4 * i + 4 ≤ L) (hL : L ≤ 256) (hi : 4 * i ≤ L) : Int32.ofNat L - nI 4 < nI (4 * i) := by
  show nI L - nI 4 < nI (4 * i)
  rw [Int32.lt_iff_toInt_lt, pk_sub_toInt (by omega) (by decide), nI_toInt (by omega)]
  omega
/-- the law's fixed things: its entry, the classes of both worlds -/
def tzLw (p : Program) (s : State) (m : MethodId) (meth : Method) (cd : Code) (b L : Nat) (xs : Nat → Int32) (D : va_G) (c c' : Nat → ClassId) : Prop := lw_At p s m meth cd b L xs ∧ va_K D vwCl (tX0 c ++ tX1 c') s ∧ L ≤ 256
end
section
set_option maxRecDepth 100000
/-! THE LAW, case by case -/
set_option maxHeartbeats 4000000 in
set_option maxRecDepth 100000 in
theorem lc_parameter {p : Program} {l : Launch} {e : Env} {s : State} {m : MethodId} {below : List Frame} {meth : Method} {cd : Code} {b L : Nat} {xs : Nat → Int32} {D : va_G} {a a' : Nat → Nat} {c c' : Nat → ClassId} (hC : tzLw p s m meth cd b L xs D c c') {i : Nat} (hi : 4 * i + 4 ≤ L) {u v : tzS} (hI : tzInv u v) {H : Heap} {locs : List Loc} {ls : Array Slot} (Y : tzY D (fun q : Nat => s.heap.size ≤ q) s.heap (wX0 a c u ++ wX1 a' c' v) H locs) (hl : lv_has ls 4 [(0, .ref b), (1, .ref (a 16)), (2, .ref (a' 14)), (3, .int (nI (4 * i)))]) (ih : (∀ (H' : Heap) (locs' : List Loc) (ls' : Array Slot) (u' v' : tzS), tzInv u' v' → tzY D (fun q : Nat => s.heap.size ≤ q) s.heap (wX0 a c u' ++ wX1 a' c' v') H' locs' → lv_has ls' 4 [(0, .ref b), (1, .ref (a 16)), (2, .ref (a' 14)), (3, .int (nI (4 * i)))] → W p l e room_1 s m #[Value.ref b] below meth cd H' locs' 600000 7290000 (lw_Z below #[Value.ref b] s) (F0 m 752 ls' []))) : W p l e room_1 s m #[Value.ref b] below meth cd H locs 600000 7290000 (lw_Z below #[Value.ref b] s) (F0 m 136 ls []) := by
  obtain ⟨⟨hx, hb, hr, hml, hown, hts, hX, hbl, hlocks, hgv⟩, hK, hL⟩ := hC
  have hA : ∀ q : Nat, s.heap.size ≤ q → (fun q : Nat => s.heap.size ≤ q) q := fun _ h => h
  have hbA : ¬ (fun q : Nat => s.heap.size ≤ q) b := Nat.not_le.mpr hbl
  have Z : tzC p s m #[Value.ref b] cd code 4 R_law D (tX0 c ++ tX1 c') := ⟨⟨hx, hb, hml, hown, fun w h => hts w (lw_all_tbl h)⟩, hK⟩
  obtain ⟨n, t, hW, hM⟩ := inv_wf hI
  refine lv_aload_n hx hb dL_law_136 rfl (lv_at hl 1 rfl) ?_
  refine lv_aload_n hx hb dL_law_137 rfl (lv_at hl 0 rfl) ?_
  refine lv_iload_n hx hb dL_law_138 rfl (lv_at hl 3 rfl) ?_
  refine lv_iconst (v := nI 1) hx hb dL_law_139 (by decide) ?_
  refine lv_iadd hx hb dL_law_140 ?_
  refine tz_sld hx hb hX hbl hbA Y (tz_ai hi 1 (by decide)) hL dL_law_141 ?_
  refine tz_cL0 Z Y hA ⟨Nat.le_refl _, Nat.le_refl _⟩ (kX0_parameter l D a c u (xs (4 * i + 1)) hW) (cwV 1 Z.1.2.2.2.2 (lw_V q79 q80 q81 q18 q82) rfl rfl rfl (by decide +kernel) ⟨by decide, by decide⟩) rfl hl.1 rfl (Nat.le_of_ble_eq_true rfl) dL_law_142 (fun H locs Y => ?_)
  refine lv_aload_n hx hb dL_law_145 rfl (lv_at hl 2 rfl) ?_
  refine lv_aload_n hx hb dL_law_146 rfl (lv_at hl 0 rfl) ?_
  refine lv_iload_n hx hb dL_law_147 rfl (lv_at hl 3 rfl) ?_
  refine lv_iconst (v := nI 1) hx hb dL_law_148 (by decide) ?_
  refine lv_iadd hx hb dL_law_149 ?_
  refine tz_sld hx hb hX hbl hbA Y (tz_ai hi 1 (by decide)) hL dL_law_150 ?_
  refine tz_cL1 Z Y hA ⟨Nat.le_refl _, Nat.le_refl _⟩ (kX1_parameter l D a' c' v (xs (4 * i + 1)) hM) (cwV 1 Z.1.2.2.2.2 (lw_V q261 q262 q263 q19 q264) rfl rfl rfl (by decide +kernel) ⟨by decide, by decide⟩) rfl hl.1 rfl (Nat.le_of_ble_eq_true rfl) dL_law_151 (fun H locs Y => ?_)
  refine lv_icmp_eq (tgt := 752) hx hb dL_law_154 (by decide) (fun _ => ?_) (fun c9 => absurd ((op_parameter hI (xs (4 * i + 1))).1) c9)
  exact ih _ _ _ _ _ ((op_parameter hI (xs (4 * i + 1))).2) Y hl
set_option maxHeartbeats 4000000 in
set_option maxRecDepth 100000 in
theorem lc_constant {p : Program} {l : Launch} {e : Env} {s : State} {m : MethodId} {below : List Frame} {meth : Method} {cd : Code} {b L : Nat} {xs : Nat → Int32} {D : va_G} {a a' : Nat → Nat} {c c' : Nat → ClassId} (hC : tzLw p s m meth cd b L xs D c c') {i : Nat} (hi : 4 * i + 4 ≤ L) {u v : tzS} (hI : tzInv u v) {H : Heap} {locs : List Loc} {ls : Array Slot} (Y : tzY D (fun q : Nat => s.heap.size ≤ q) s.heap (wX0 a c u ++ wX1 a' c' v) H locs) (hl : lv_has ls 4 [(0, .ref b), (1, .ref (a 16)), (2, .ref (a' 14)), (3, .int (nI (4 * i)))]) (ih : (∀ (H' : Heap) (locs' : List Loc) (ls' : Array Slot) (u' v' : tzS), tzInv u' v' → tzY D (fun q : Nat => s.heap.size ≤ q) s.heap (wX0 a c u' ++ wX1 a' c' v') H' locs' → lv_has ls' 4 [(0, .ref b), (1, .ref (a 16)), (2, .ref (a' 14)), (3, .int (nI (4 * i)))] → W p l e room_1 s m #[Value.ref b] below meth cd H' locs' 600000 7290000 (lw_Z below #[Value.ref b] s) (F0 m 752 ls' []))) : W p l e room_1 s m #[Value.ref b] below meth cd H locs 600000 7290000 (lw_Z below #[Value.ref b] s) (F0 m 159 ls []) := by
  obtain ⟨⟨hx, hb, hr, hml, hown, hts, hX, hbl, hlocks, hgv⟩, hK, hL⟩ := hC
  have hA : ∀ q : Nat, s.heap.size ≤ q → (fun q : Nat => s.heap.size ≤ q) q := fun _ h => h
  have hbA : ¬ (fun q : Nat => s.heap.size ≤ q) b := Nat.not_le.mpr hbl
  have Z : tzC p s m #[Value.ref b] cd code 4 R_law D (tX0 c ++ tX1 c') := ⟨⟨hx, hb, hml, hown, fun w h => hts w (lw_all_tbl h)⟩, hK⟩
  obtain ⟨n, t, hW, hM⟩ := inv_wf hI
  refine lv_aload_n hx hb dL_law_159 rfl (lv_at hl 1 rfl) ?_
  refine lv_aload_n hx hb dL_law_160 rfl (lv_at hl 0 rfl) ?_
  refine lv_iload_n hx hb dL_law_161 rfl (lv_at hl 3 rfl) ?_
  refine lv_iconst (v := nI 1) hx hb dL_law_162 (by decide) ?_
  refine lv_iadd hx hb dL_law_163 ?_
  refine tz_sld hx hb hX hbl hbA Y (tz_ai hi 1 (by decide)) hL dL_law_164 ?_
  refine tz_cL0 Z Y hA ⟨Nat.le_refl _, Nat.le_refl _⟩ (kX0_constant l D a c u (xs (4 * i + 1)) hW) (cwV 1 Z.1.2.2.2.2 (lw_V q90 q91 q92 q18 q93) rfl rfl rfl (by decide +kernel) ⟨by decide, by decide⟩) rfl hl.1 rfl (Nat.le_of_ble_eq_true rfl) dL_law_165 (fun H locs Y => ?_)
  refine lv_aload_n hx hb dL_law_168 rfl (lv_at hl 2 rfl) ?_
  refine lv_aload_n hx hb dL_law_169 rfl (lv_at hl 0 rfl) ?_
  refine lv_iload_n hx hb dL_law_170 rfl (lv_at hl 3 rfl) ?_
  refine lv_iconst (v := nI 1) hx hb dL_law_171 (by decide) ?_
  refine lv_iadd hx hb dL_law_172 ?_
  refine tz_sld hx hb hX hbl hbA Y (tz_ai hi 1 (by decide)) hL dL_law_173 ?_
  refine tz_cL1 Z Y hA ⟨Nat.le_refl _, Nat.le_refl _⟩ (kX1_constant l D a' c' v (xs (4 * i + 1)) hM) (cwV 1 Z.1.2.2.2.2 (lw_V q273 q274 q275 q19 q276) rfl rfl rfl (by decide +kernel) ⟨by decide, by decide⟩) rfl hl.1 rfl (Nat.le_of_ble_eq_true rfl) dL_law_174 (fun H locs Y => ?_)
  refine lv_icmp_eq (tgt := 752) hx hb dL_law_177 (by decide) (fun _ => ?_) (fun c9 => absurd ((op_constant hI (xs (4 * i + 1))).1) c9)
  exact ih _ _ _ _ _ ((op_constant hI (xs (4 * i + 1))).2) Y hl
set_option maxHeartbeats 4000000 in
set_option maxRecDepth 100000 in
theorem lc_combine {p : Program} {l : Launch} {e : Env} {s : State} {m : MethodId} {below : List Frame} {meth : Method} {cd : Code} {b L : Nat} {xs : Nat → Int32} {D : va_G} {a a' : Nat → Nat} {c c' : Nat → ClassId} (hC : tzLw p s m meth cd b L xs D c c') {i : Nat} (hi : 4 * i + 4 ≤ L) {u v : tzS} (hI : tzInv u v) {H : Heap} {locs : List Loc} {ls : Array Slot} (Y : tzY D (fun q : Nat => s.heap.size ≤ q) s.heap (wX0 a c u ++ wX1 a' c' v) H locs) (hl : lv_has ls 4 [(0, .ref b), (1, .ref (a 16)), (2, .ref (a' 14)), (3, .int (nI (4 * i)))]) (ih : (∀ (H' : Heap) (locs' : List Loc) (ls' : Array Slot) (u' v' : tzS), tzInv u' v' → tzY D (fun q : Nat => s.heap.size ≤ q) s.heap (wX0 a c u' ++ wX1 a' c' v') H' locs' → lv_has ls' 4 [(0, .ref b), (1, .ref (a 16)), (2, .ref (a' 14)), (3, .int (nI (4 * i)))] → W p l e room_1 s m #[Value.ref b] below meth cd H' locs' 600000 7290000 (lw_Z below #[Value.ref b] s) (F0 m 752 ls' []))) : W p l e room_1 s m #[Value.ref b] below meth cd H locs 600000 7290000 (lw_Z below #[Value.ref b] s) (F0 m 182 ls []) := by
  obtain ⟨⟨hx, hb, hr, hml, hown, hts, hX, hbl, hlocks, hgv⟩, hK, hL⟩ := hC
  have hA : ∀ q : Nat, s.heap.size ≤ q → (fun q : Nat => s.heap.size ≤ q) q := fun _ h => h
  have hbA : ¬ (fun q : Nat => s.heap.size ≤ q) b := Nat.not_le.mpr hbl
  have Z : tzC p s m #[Value.ref b] cd code 4 R_law D (tX0 c ++ tX1 c') := ⟨⟨hx, hb, hml, hown, fun w h => hts w (lw_all_tbl h)⟩, hK⟩
  obtain ⟨n, t, hW, hM⟩ := inv_wf hI
  refine lv_aload_n hx hb dL_law_182 rfl (lv_at hl 1 rfl) ?_
  refine lv_aload_n hx hb dL_law_183 rfl (lv_at hl 0 rfl) ?_
  refine lv_iload_n hx hb dL_law_184 rfl (lv_at hl 3 rfl) ?_
  refine lv_iconst (v := nI 1) hx hb dL_law_185 (by decide) ?_
  refine lv_iadd hx hb dL_law_186 ?_
  refine tz_sld hx hb hX hbl hbA Y (tz_ai hi 1 (by decide)) hL dL_law_187 ?_
  refine lv_aload_n hx hb dL_law_188 rfl (lv_at hl 0 rfl) ?_
  refine lv_iload_n hx hb dL_law_189 rfl (lv_at hl 3 rfl) ?_
  refine lv_iconst (v := nI 2) hx hb dL_law_190 (by decide) ?_
  refine lv_iadd hx hb dL_law_191 ?_
  refine tz_sld hx hb hX hbl hbA Y (tz_ai hi 2 (by decide)) hL dL_law_192 ?_
  refine lv_aload_n hx hb dL_law_193 rfl (lv_at hl 0 rfl) ?_
  refine lv_iload_n hx hb dL_law_194 rfl (lv_at hl 3 rfl) ?_
  refine lv_iconst (v := nI 3) hx hb dL_law_195 (by decide) ?_
  refine lv_iadd hx hb dL_law_196 ?_
  refine tz_sld hx hb hX hbl hbA Y (tz_ai hi 3 (by decide)) hL dL_law_197 ?_
  refine tz_cL0 Z Y hA ⟨Nat.le_refl _, Nat.le_refl _⟩ (kX0_combine l D a c u (xs (4 * i + 1)) (xs (4 * i + 2)) (xs (4 * i + 3)) hW) (cwV 3 Z.1.2.2.2.2 (lw_V q94 q95 q96 q18 q97) rfl rfl rfl (by decide +kernel) ⟨by decide, by decide⟩) rfl hl.1 rfl (Nat.le_of_ble_eq_true rfl) dL_law_198 (fun H locs Y => ?_)
  refine lv_aload_n hx hb dL_law_201 rfl (lv_at hl 2 rfl) ?_
  refine lv_aload_n hx hb dL_law_202 rfl (lv_at hl 0 rfl) ?_
  refine lv_iload_n hx hb dL_law_203 rfl (lv_at hl 3 rfl) ?_
  refine lv_iconst (v := nI 1) hx hb dL_law_204 (by decide) ?_
  refine lv_iadd hx hb dL_law_205 ?_
  refine tz_sld hx hb hX hbl hbA Y (tz_ai hi 1 (by decide)) hL dL_law_206 ?_
  refine lv_aload_n hx hb dL_law_207 rfl (lv_at hl 0 rfl) ?_
  refine lv_iload_n hx hb dL_law_208 rfl (lv_at hl 3 rfl) ?_
  refine lv_iconst (v := nI 2) hx hb dL_law_209 (by decide) ?_
  refine lv_iadd hx hb dL_law_210 ?_
  refine tz_sld hx hb hX hbl hbA Y (tz_ai hi 2 (by decide)) hL dL_law_211 ?_
  refine lv_aload_n hx hb dL_law_212 rfl (lv_at hl 0 rfl) ?_
  refine lv_iload_n hx hb dL_law_213 rfl (lv_at hl 3 rfl) ?_
  refine lv_iconst (v := nI 3) hx hb dL_law_214 (by decide) ?_
  refine lv_iadd hx hb dL_law_215 ?_
  refine tz_sld hx hb hX hbl hbA Y (tz_ai hi 3 (by decide)) hL dL_law_216 ?_
  refine tz_cL1 Z Y hA ⟨Nat.le_refl _, Nat.le_refl _⟩ (kX1_combine l D a' c' v (xs (4 * i + 1)) (xs (4 * i + 2)) (xs (4 * i + 3)) hM) (cwV 3 Z.1.2.2.2.2 (lw_V q277 q278 q279 q19 q280) rfl rfl rfl (by decide +kernel) ⟨by decide, by decide⟩) rfl hl.1 rfl (Nat.le_of_ble_eq_true rfl) dL_law_217 (fun H locs Y => ?_)
  refine lv_icmp_eq (tgt := 752) hx hb dL_law_220 (by decide) (fun _ => ?_) (fun c9 => absurd ((op_combine hI (xs (4 * i + 1)) (xs (4 * i + 2)) (xs (4 * i + 3))).1) c9)
  exact ih _ _ _ _ _ ((op_combine hI (xs (4 * i + 1)) (xs (4 * i + 2)) (xs (4 * i + 3))).2) Y hl
set_option maxHeartbeats 4000000 in
set_option maxRecDepth 100000 in
theorem lc_square {p : Program} {l : Launch} {e : Env} {s : State} {m : MethodId} {below : List Frame} {meth : Method} {cd : Code} {b L : Nat} {xs : Nat → Int32} {D : va_G} {a a' : Nat → Nat} {c c' : Nat → ClassId} (hC : tzLw p s m meth cd b L xs D c c') {i : Nat} (hi : 4 * i + 4 ≤ L) {u v : tzS} (hI : tzInv u v) {H : Heap} {locs : List Loc} {ls : Array Slot} (Y : tzY D (fun q : Nat => s.heap.size ≤ q) s.heap (wX0 a c u ++ wX1 a' c' v) H locs) (hl : lv_has ls 4 [(0, .ref b), (1, .ref (a 16)), (2, .ref (a' 14)), (3, .int (nI (4 * i)))]) (ih : (∀ (H' : Heap) (locs' : List Loc) (ls' : Array Slot) (u' v' : tzS), tzInv u' v' → tzY D (fun q : Nat => s.heap.size ≤ q) s.heap (wX0 a c u' ++ wX1 a' c' v') H' locs' → lv_has ls' 4 [(0, .ref b), (1, .ref (a 16)), (2, .ref (a' 14)), (3, .int (nI (4 * i)))] → W p l e room_1 s m #[Value.ref b] below meth cd H' locs' 600000 7290000 (lw_Z below #[Value.ref b] s) (F0 m 752 ls' []))) : W p l e room_1 s m #[Value.ref b] below meth cd H locs 600000 7290000 (lw_Z below #[Value.ref b] s) (F0 m 225 ls []) := by
  obtain ⟨⟨hx, hb, hr, hml, hown, hts, hX, hbl, hlocks, hgv⟩, hK, hL⟩ := hC
  have hA : ∀ q : Nat, s.heap.size ≤ q → (fun q : Nat => s.heap.size ≤ q) q := fun _ h => h
  have hbA : ¬ (fun q : Nat => s.heap.size ≤ q) b := Nat.not_le.mpr hbl
  have Z : tzC p s m #[Value.ref b] cd code 4 R_law D (tX0 c ++ tX1 c') := ⟨⟨hx, hb, hml, hown, fun w h => hts w (lw_all_tbl h)⟩, hK⟩
  obtain ⟨n, t, hW, hM⟩ := inv_wf hI
  refine lv_aload_n hx hb dL_law_225 rfl (lv_at hl 1 rfl) ?_
  refine lv_aload_n hx hb dL_law_226 rfl (lv_at hl 0 rfl) ?_
  refine lv_iload_n hx hb dL_law_227 rfl (lv_at hl 3 rfl) ?_
  refine lv_iconst (v := nI 1) hx hb dL_law_228 (by decide) ?_
  refine lv_iadd hx hb dL_law_229 ?_
  refine tz_sld hx hb hX hbl hbA Y (tz_ai hi 1 (by decide)) hL dL_law_230 ?_
  refine tz_cL0 Z Y hA ⟨Nat.le_refl _, Nat.le_refl _⟩ (kX0_square l D a c u (xs (4 * i + 1)) hW) (cwV 1 Z.1.2.2.2.2 (lw_V q102 q103 q104 q18 q105) rfl rfl rfl (by decide +kernel) ⟨by decide, by decide⟩) rfl hl.1 rfl (Nat.le_of_ble_eq_true rfl) dL_law_231 (fun H locs Y => ?_)
  refine lv_aload_n hx hb dL_law_234 rfl (lv_at hl 2 rfl) ?_
  refine lv_aload_n hx hb dL_law_235 rfl (lv_at hl 0 rfl) ?_
  refine lv_iload_n hx hb dL_law_236 rfl (lv_at hl 3 rfl) ?_
  refine lv_iconst (v := nI 1) hx hb dL_law_237 (by decide) ?_
  refine lv_iadd hx hb dL_law_238 ?_
  refine tz_sld hx hb hX hbl hbA Y (tz_ai hi 1 (by decide)) hL dL_law_239 ?_
  refine tz_cL1 Z Y hA ⟨Nat.le_refl _, Nat.le_refl _⟩ (kX1_square l D a' c' v (xs (4 * i + 1)) hM) (cwV 1 Z.1.2.2.2.2 (lw_V q285 q286 q287 q19 q288) rfl rfl rfl (by decide +kernel) ⟨by decide, by decide⟩) rfl hl.1 rfl (Nat.le_of_ble_eq_true rfl) dL_law_240 (fun H locs Y => ?_)
  refine lv_icmp_eq (tgt := 752) hx hb dL_law_243 (by decide) (fun _ => ?_) (fun c9 => absurd ((op_square hI (xs (4 * i + 1))).1) c9)
  exact ih _ _ _ _ _ ((op_square hI (xs (4 * i + 1))).2) Y hl
set_option maxHeartbeats 4000000 in
set_option maxRecDepth 100000 in
theorem lc_term {p : Program} {l : Launch} {e : Env} {s : State} {m : MethodId} {below : List Frame} {meth : Method} {cd : Code} {b L : Nat} {xs : Nat → Int32} {D : va_G} {a a' : Nat → Nat} {c c' : Nat → ClassId} (hC : tzLw p s m meth cd b L xs D c c') {i : Nat} (hi : 4 * i + 4 ≤ L) {u v : tzS} (hI : tzInv u v) {H : Heap} {locs : List Loc} {ls : Array Slot} (Y : tzY D (fun q : Nat => s.heap.size ≤ q) s.heap (wX0 a c u ++ wX1 a' c' v) H locs) (hl : lv_has ls 4 [(0, .ref b), (1, .ref (a 16)), (2, .ref (a' 14)), (3, .int (nI (4 * i)))]) (ih : (∀ (H' : Heap) (locs' : List Loc) (ls' : Array Slot) (u' v' : tzS), tzInv u' v' → tzY D (fun q : Nat => s.heap.size ≤ q) s.heap (wX0 a c u' ++ wX1 a' c' v') H' locs' → lv_has ls' 4 [(0, .ref b), (1, .ref (a 16)), (2, .ref (a' 14)), (3, .int (nI (4 * i)))] → W p l e room_1 s m #[Value.ref b] below meth cd H' locs' 600000 7290000 (lw_Z below #[Value.ref b] s) (F0 m 752 ls' []))) : W p l e room_1 s m #[Value.ref b] below meth cd H locs 600000 7290000 (lw_Z below #[Value.ref b] s) (F0 m 248 ls []) := by
  obtain ⟨⟨hx, hb, hr, hml, hown, hts, hX, hbl, hlocks, hgv⟩, hK, hL⟩ := hC
  have hA : ∀ q : Nat, s.heap.size ≤ q → (fun q : Nat => s.heap.size ≤ q) q := fun _ h => h
  have hbA : ¬ (fun q : Nat => s.heap.size ≤ q) b := Nat.not_le.mpr hbl
  have Z : tzC p s m #[Value.ref b] cd code 4 R_law D (tX0 c ++ tX1 c') := ⟨⟨hx, hb, hml, hown, fun w h => hts w (lw_all_tbl h)⟩, hK⟩
  obtain ⟨n, t, hW, hM⟩ := inv_wf hI
  refine lv_aload_n hx hb dL_law_248 rfl (lv_at hl 1 rfl) ?_
  refine lv_aload_n hx hb dL_law_249 rfl (lv_at hl 0 rfl) ?_
  refine lv_iload_n hx hb dL_law_250 rfl (lv_at hl 3 rfl) ?_
  refine lv_iconst (v := nI 1) hx hb dL_law_251 (by decide) ?_
  refine lv_iadd hx hb dL_law_252 ?_
  refine tz_sld hx hb hX hbl hbA Y (tz_ai hi 1 (by decide)) hL dL_law_253 ?_
  refine lv_aload_n hx hb dL_law_254 rfl (lv_at hl 0 rfl) ?_
  refine lv_iload_n hx hb dL_law_255 rfl (lv_at hl 3 rfl) ?_
  refine lv_iconst (v := nI 2) hx hb dL_law_256 (by decide) ?_
  refine lv_iadd hx hb dL_law_257 ?_
  refine tz_sld hx hb hX hbl hbA Y (tz_ai hi 2 (by decide)) hL dL_law_258 ?_
  refine tz_cL0 Z Y hA ⟨Nat.le_refl _, Nat.le_refl _⟩ (kX0_term l D a c u (xs (4 * i + 1)) (xs (4 * i + 2)) hW) (cwV 2 Z.1.2.2.2.2 (lw_V q106 q107 q108 q18 q109) rfl rfl rfl (by decide +kernel) ⟨by decide, by decide⟩) rfl hl.1 rfl (Nat.le_of_ble_eq_true rfl) dL_law_259 (fun H locs Y => ?_)
  refine lv_aload_n hx hb dL_law_262 rfl (lv_at hl 2 rfl) ?_
  refine lv_aload_n hx hb dL_law_263 rfl (lv_at hl 0 rfl) ?_
  refine lv_iload_n hx hb dL_law_264 rfl (lv_at hl 3 rfl) ?_
  refine lv_iconst (v := nI 1) hx hb dL_law_265 (by decide) ?_
  refine lv_iadd hx hb dL_law_266 ?_
  refine tz_sld hx hb hX hbl hbA Y (tz_ai hi 1 (by decide)) hL dL_law_267 ?_
  refine lv_aload_n hx hb dL_law_268 rfl (lv_at hl 0 rfl) ?_
  refine lv_iload_n hx hb dL_law_269 rfl (lv_at hl 3 rfl) ?_
  refine lv_iconst (v := nI 2) hx hb dL_law_270 (by decide) ?_
  refine lv_iadd hx hb dL_law_271 ?_
  refine tz_sld hx hb hX hbl hbA Y (tz_ai hi 2 (by decide)) hL dL_law_272 ?_
  refine tz_cL1 Z Y hA ⟨Nat.le_refl _, Nat.le_refl _⟩ (kX1_term l D a' c' v (xs (4 * i + 1)) (xs (4 * i + 2)) hM) (cwV 2 Z.1.2.2.2.2 (lw_V q289 q290 q291 q19 q292) rfl rfl rfl (by decide +kernel) ⟨by decide, by decide⟩) rfl hl.1 rfl (Nat.le_of_ble_eq_true rfl) dL_law_273 (fun H locs Y => ?_)
  refine lv_icmp_eq (tgt := 752) hx hb dL_law_276 (by decide) (fun _ => ?_) (fun c9 => absurd ((op_term hI (xs (4 * i + 1)) (xs (4 * i + 2))).1) c9)
  exact ih _ _ _ _ _ ((op_term hI (xs (4 * i + 1)) (xs (4 * i + 2))).2) Y hl
set_option maxHeartbeats 4000000 in
set_option maxRecDepth 100000 in
theorem lc_clear {p : Program} {l : Launch} {e : Env} {s : State} {m : MethodId} {below : List Frame} {meth : Method} {cd : Code} {b L : Nat} {xs : Nat → Int32} {D : va_G} {a a' : Nat → Nat} {c c' : Nat → ClassId} (hC : tzLw p s m meth cd b L xs D c c') {i : Nat} (hi : 4 * i + 4 ≤ L) {u v : tzS} (hI : tzInv u v) {H : Heap} {locs : List Loc} {ls : Array Slot} (Y : tzY D (fun q : Nat => s.heap.size ≤ q) s.heap (wX0 a c u ++ wX1 a' c' v) H locs) (hl : lv_has ls 4 [(0, .ref b), (1, .ref (a 16)), (2, .ref (a' 14)), (3, .int (nI (4 * i)))]) (ih : (∀ (H' : Heap) (locs' : List Loc) (ls' : Array Slot) (u' v' : tzS), tzInv u' v' → tzY D (fun q : Nat => s.heap.size ≤ q) s.heap (wX0 a c u' ++ wX1 a' c' v') H' locs' → lv_has ls' 4 [(0, .ref b), (1, .ref (a 16)), (2, .ref (a' 14)), (3, .int (nI (4 * i)))] → W p l e room_1 s m #[Value.ref b] below meth cd H' locs' 600000 7290000 (lw_Z below #[Value.ref b] s) (F0 m 752 ls' []))) : W p l e room_1 s m #[Value.ref b] below meth cd H locs 600000 7290000 (lw_Z below #[Value.ref b] s) (F0 m 281 ls []) := by
  obtain ⟨⟨hx, hb, hr, hml, hown, hts, hX, hbl, hlocks, hgv⟩, hK, hL⟩ := hC
  have hA : ∀ q : Nat, s.heap.size ≤ q → (fun q : Nat => s.heap.size ≤ q) q := fun _ h => h
  have hbA : ¬ (fun q : Nat => s.heap.size ≤ q) b := Nat.not_le.mpr hbl
  have Z : tzC p s m #[Value.ref b] cd code 4 R_law D (tX0 c ++ tX1 c') := ⟨⟨hx, hb, hml, hown, fun w h => hts w (lw_all_tbl h)⟩, hK⟩
  obtain ⟨n, t, hW, hM⟩ := inv_wf hI
  refine lv_aload_n hx hb dL_law_281 rfl (lv_at hl 1 rfl) ?_
  refine tz_cL0 Z Y hA ⟨Nat.le_refl _, Nat.le_refl _⟩ (kX0_clear l D a c u) (cwV 0 Z.1.2.2.2.2 (lw_V q110 q111 q112 q18 q113) rfl rfl rfl (by decide +kernel) ⟨by decide, by decide⟩) rfl hl.1 rfl (Nat.le_of_ble_eq_true rfl) dL_law_282 (fun H locs Y => ?_)
  refine lv_aload_n hx hb dL_law_285 rfl (lv_at hl 2 rfl) ?_
  refine tz_cL1 Z Y hA ⟨Nat.le_refl _, Nat.le_refl _⟩ (kX1_clear l D a' c' v) (cwV 0 Z.1.2.2.2.2 (lw_V q293 q294 q295 q19 q296) rfl rfl rfl (by decide +kernel) ⟨by decide, by decide⟩) rfl hl.1 rfl (Nat.le_of_ble_eq_true rfl) dL_law_286 (fun H locs Y => ?_)
  refine lv_icmp_eq (tgt := 752) hx hb dL_law_289 (by decide) (fun _ => ?_) (fun c9 => absurd ((op_clear hI).1) c9)
  exact ih _ _ _ _ _ ((op_clear hI).2) Y hl
set_option maxHeartbeats 4000000 in
set_option maxRecDepth 100000 in
theorem lc_nodes {p : Program} {l : Launch} {e : Env} {s : State} {m : MethodId} {below : List Frame} {meth : Method} {cd : Code} {b L : Nat} {xs : Nat → Int32} {D : va_G} {a a' : Nat → Nat} {c c' : Nat → ClassId} (hC : tzLw p s m meth cd b L xs D c c') {i : Nat} (hi : 4 * i + 4 ≤ L) {u v : tzS} (hI : tzInv u v) {H : Heap} {locs : List Loc} {ls : Array Slot} (Y : tzY D (fun q : Nat => s.heap.size ≤ q) s.heap (wX0 a c u ++ wX1 a' c' v) H locs) (hl : lv_has ls 4 [(0, .ref b), (1, .ref (a 16)), (2, .ref (a' 14)), (3, .int (nI (4 * i)))]) (ih : (∀ (H' : Heap) (locs' : List Loc) (ls' : Array Slot) (u' v' : tzS), tzInv u' v' → tzY D (fun q : Nat => s.heap.size ≤ q) s.heap (wX0 a c u' ++ wX1 a' c' v') H' locs' → lv_has ls' 4 [(0, .ref b), (1, .ref (a 16)), (2, .ref (a' 14)), (3, .int (nI (4 * i)))] → W p l e room_1 s m #[Value.ref b] below meth cd H' locs' 600000 7290000 (lw_Z below #[Value.ref b] s) (F0 m 752 ls' []))) : W p l e room_1 s m #[Value.ref b] below meth cd H locs 600000 7290000 (lw_Z below #[Value.ref b] s) (F0 m 294 ls []) := by
  obtain ⟨⟨hx, hb, hr, hml, hown, hts, hX, hbl, hlocks, hgv⟩, hK, hL⟩ := hC
  have hA : ∀ q : Nat, s.heap.size ≤ q → (fun q : Nat => s.heap.size ≤ q) q := fun _ h => h
  have hbA : ¬ (fun q : Nat => s.heap.size ≤ q) b := Nat.not_le.mpr hbl
  have Z : tzC p s m #[Value.ref b] cd code 4 R_law D (tX0 c ++ tX1 c') := ⟨⟨hx, hb, hml, hown, fun w h => hts w (lw_all_tbl h)⟩, hK⟩
  obtain ⟨n, t, hW, hM⟩ := inv_wf hI
  refine lv_aload_n hx hb dL_law_294 rfl (lv_at hl 1 rfl) ?_
  refine tz_cL0 Z Y hA ⟨Nat.le_refl _, Nat.le_refl _⟩ (kX0_nodes l D a c u) (cwV 0 Z.1.2.2.2.2 (lw_V q114 q115 q116 q18 q117) rfl rfl rfl (by decide +kernel) ⟨by decide, by decide⟩) rfl hl.1 rfl (Nat.le_of_ble_eq_true rfl) dL_law_295 (fun H locs Y => ?_)
  refine lv_aload_n hx hb dL_law_298 rfl (lv_at hl 2 rfl) ?_
  refine tz_cL1 Z Y hA ⟨Nat.le_refl _, Nat.le_refl _⟩ (kX1_nodes l D a' c' v) (cwV 0 Z.1.2.2.2.2 (lw_V q297 q298 q299 q19 q300) rfl rfl rfl (by decide +kernel) ⟨by decide, by decide⟩) rfl hl.1 rfl (Nat.le_of_ble_eq_true rfl) dL_law_299 (fun H locs Y => ?_)
  refine lv_icmp_eq (tgt := 752) hx hb dL_law_302 (by decide) (fun _ => ?_) (fun c9 => absurd (op_nodes hI) c9)
  exact ih _ _ _ _ _ (hI) Y hl
set_option maxHeartbeats 4000000 in
set_option maxRecDepth 100000 in
theorem lc_terms {p : Program} {l : Launch} {e : Env} {s : State} {m : MethodId} {below : List Frame} {meth : Method} {cd : Code} {b L : Nat} {xs : Nat → Int32} {D : va_G} {a a' : Nat → Nat} {c c' : Nat → ClassId} (hC : tzLw p s m meth cd b L xs D c c') {i : Nat} (hi : 4 * i + 4 ≤ L) {u v : tzS} (hI : tzInv u v) {H : Heap} {locs : List Loc} {ls : Array Slot} (Y : tzY D (fun q : Nat => s.heap.size ≤ q) s.heap (wX0 a c u ++ wX1 a' c' v) H locs) (hl : lv_has ls 4 [(0, .ref b), (1, .ref (a 16)), (2, .ref (a' 14)), (3, .int (nI (4 * i)))]) (ih : (∀ (H' : Heap) (locs' : List Loc) (ls' : Array Slot) (u' v' : tzS), tzInv u' v' → tzY D (fun q : Nat => s.heap.size ≤ q) s.heap (wX0 a c u' ++ wX1 a' c' v') H' locs' → lv_has ls' 4 [(0, .ref b), (1, .ref (a 16)), (2, .ref (a' 14)), (3, .int (nI (4 * i)))] → W p l e room_1 s m #[Value.ref b] below meth cd H' locs' 600000 7290000 (lw_Z below #[Value.ref b] s) (F0 m 752 ls' []))) : W p l e room_1 s m #[Value.ref b] below meth cd H locs 600000 7290000 (lw_Z below #[Value.ref b] s) (F0 m 307 ls []) := by
  obtain ⟨⟨hx, hb, hr, hml, hown, hts, hX, hbl, hlocks, hgv⟩, hK, hL⟩ := hC
  have hA : ∀ q : Nat, s.heap.size ≤ q → (fun q : Nat => s.heap.size ≤ q) q := fun _ h => h
  have hbA : ¬ (fun q : Nat => s.heap.size ≤ q) b := Nat.not_le.mpr hbl
  have Z : tzC p s m #[Value.ref b] cd code 4 R_law D (tX0 c ++ tX1 c') := ⟨⟨hx, hb, hml, hown, fun w h => hts w (lw_all_tbl h)⟩, hK⟩
  obtain ⟨n, t, hW, hM⟩ := inv_wf hI
  refine lv_aload_n hx hb dL_law_307 rfl (lv_at hl 1 rfl) ?_
  refine tz_cL0 Z Y hA ⟨Nat.le_refl _, Nat.le_refl _⟩ (kX0_terms l D a c u) (cwV 0 Z.1.2.2.2.2 (lw_V q118 q119 q120 q18 q121) rfl rfl rfl (by decide +kernel) ⟨by decide, by decide⟩) rfl hl.1 rfl (Nat.le_of_ble_eq_true rfl) dL_law_308 (fun H locs Y => ?_)
  refine lv_aload_n hx hb dL_law_311 rfl (lv_at hl 2 rfl) ?_
  refine tz_cL1 Z Y hA ⟨Nat.le_refl _, Nat.le_refl _⟩ (kX1_terms l D a' c' v) (cwV 0 Z.1.2.2.2.2 (lw_V q301 q302 q303 q19 q304) rfl rfl rfl (by decide +kernel) ⟨by decide, by decide⟩) rfl hl.1 rfl (Nat.le_of_ble_eq_true rfl) dL_law_312 (fun H locs Y => ?_)
  refine lv_icmp_eq (tgt := 752) hx hb dL_law_315 (by decide) (fun _ => ?_) (fun c9 => absurd (op_terms hI) c9)
  exact ih _ _ _ _ _ (hI) Y hl
set_option maxHeartbeats 4000000 in
set_option maxRecDepth 100000 in
theorem lc_place {p : Program} {l : Launch} {e : Env} {s : State} {m : MethodId} {below : List Frame} {meth : Method} {cd : Code} {b L : Nat} {xs : Nat → Int32} {D : va_G} {a a' : Nat → Nat} {c c' : Nat → ClassId} (hC : tzLw p s m meth cd b L xs D c c') {i : Nat} (hi : 4 * i + 4 ≤ L) {u v : tzS} (hI : tzInv u v) {H : Heap} {locs : List Loc} {ls : Array Slot} (Y : tzY D (fun q : Nat => s.heap.size ≤ q) s.heap (wX0 a c u ++ wX1 a' c' v) H locs) (hl : lv_has ls 4 [(0, .ref b), (1, .ref (a 16)), (2, .ref (a' 14)), (3, .int (nI (4 * i)))]) (ih : (∀ (H' : Heap) (locs' : List Loc) (ls' : Array Slot) (u' v' : tzS), tzInv u' v' → tzY D (fun q : Nat => s.heap.size ≤ q) s.heap (wX0 a c u' ++ wX1 a' c' v') H' locs' → lv_has ls' 4 [(0, .ref b), (1, .ref (a 16)), (2, .ref (a' 14)), (3, .int (nI (4 * i)))] → W p l e room_1 s m #[Value.ref b] below meth cd H' locs' 600000 7290000 (lw_Z below #[Value.ref b] s) (F0 m 752 ls' []))) : W p l e room_1 s m #[Value.ref b] below meth cd H locs 600000 7290000 (lw_Z below #[Value.ref b] s) (F0 m 320 ls []) := by
  obtain ⟨⟨hx, hb, hr, hml, hown, hts, hX, hbl, hlocks, hgv⟩, hK, hL⟩ := hC
  have hA : ∀ q : Nat, s.heap.size ≤ q → (fun q : Nat => s.heap.size ≤ q) q := fun _ h => h
  have hbA : ¬ (fun q : Nat => s.heap.size ≤ q) b := Nat.not_le.mpr hbl
  have Z : tzC p s m #[Value.ref b] cd code 4 R_law D (tX0 c ++ tX1 c') := ⟨⟨hx, hb, hml, hown, fun w h => hts w (lw_all_tbl h)⟩, hK⟩
  obtain ⟨n, t, hW, hM⟩ := inv_wf hI
  refine lv_aload_n hx hb dL_law_320 rfl (lv_at hl 1 rfl) ?_
  refine lv_aload_n hx hb dL_law_321 rfl (lv_at hl 0 rfl) ?_
  refine lv_iload_n hx hb dL_law_322 rfl (lv_at hl 3 rfl) ?_
  refine lv_iconst (v := nI 1) hx hb dL_law_323 (by decide) ?_
  refine lv_iadd hx hb dL_law_324 ?_
  refine tz_sld hx hb hX hbl hbA Y (tz_ai hi 1 (by decide)) hL dL_law_325 ?_
  refine lv_aload_n hx hb dL_law_326 rfl (lv_at hl 0 rfl) ?_
  refine lv_iload_n hx hb dL_law_327 rfl (lv_at hl 3 rfl) ?_
  refine lv_iconst (v := nI 2) hx hb dL_law_328 (by decide) ?_
  refine lv_iadd hx hb dL_law_329 ?_
  refine tz_sld hx hb hX hbl hbA Y (tz_ai hi 2 (by decide)) hL dL_law_330 ?_
  refine lv_aload_n hx hb dL_law_331 rfl (lv_at hl 0 rfl) ?_
  refine lv_iload_n hx hb dL_law_332 rfl (lv_at hl 3 rfl) ?_
  refine lv_iconst (v := nI 3) hx hb dL_law_333 (by decide) ?_
  refine lv_iadd hx hb dL_law_334 ?_
  refine tz_sld hx hb hX hbl hbA Y (tz_ai hi 3 (by decide)) hL dL_law_335 ?_
  refine tz_cL0 Z Y hA ⟨Nat.le_refl _, Nat.le_refl _⟩ (kX0_place l D a c u (xs (4 * i + 1)) (xs (4 * i + 2)) (xs (4 * i + 3))) (cwV 3 Z.1.2.2.2.2 (lw_V q122 q123 q124 q18 q125) rfl rfl rfl (by decide +kernel) ⟨by decide, by decide⟩) rfl hl.1 rfl (Nat.le_of_ble_eq_true rfl) dL_law_336 (fun H locs Y => ?_)
  refine lv_aload_n hx hb dL_law_339 rfl (lv_at hl 2 rfl) ?_
  refine lv_aload_n hx hb dL_law_340 rfl (lv_at hl 0 rfl) ?_
  refine lv_iload_n hx hb dL_law_341 rfl (lv_at hl 3 rfl) ?_
  refine lv_iconst (v := nI 1) hx hb dL_law_342 (by decide) ?_
  refine lv_iadd hx hb dL_law_343 ?_
  refine tz_sld hx hb hX hbl hbA Y (tz_ai hi 1 (by decide)) hL dL_law_344 ?_
  refine lv_aload_n hx hb dL_law_345 rfl (lv_at hl 0 rfl) ?_
  refine lv_iload_n hx hb dL_law_346 rfl (lv_at hl 3 rfl) ?_
  refine lv_iconst (v := nI 2) hx hb dL_law_347 (by decide) ?_
  refine lv_iadd hx hb dL_law_348 ?_
  refine tz_sld hx hb hX hbl hbA Y (tz_ai hi 2 (by decide)) hL dL_law_349 ?_
  refine lv_aload_n hx hb dL_law_350 rfl (lv_at hl 0 rfl) ?_
  refine lv_iload_n hx hb dL_law_351 rfl (lv_at hl 3 rfl) ?_
  refine lv_iconst (v := nI 3) hx hb dL_law_352 (by decide) ?_
  refine lv_iadd hx hb dL_law_353 ?_
  refine tz_sld hx hb hX hbl hbA Y (tz_ai hi 3 (by decide)) hL dL_law_354 ?_
  refine tz_cL1 Z Y hA ⟨Nat.le_refl _, Nat.le_refl _⟩ (kX1_place l D a' c' v (xs (4 * i + 1)) (xs (4 * i + 2)) (xs (4 * i + 3))) (cwV 3 Z.1.2.2.2.2 (lw_V q305 q306 q307 q19 q308) rfl rfl rfl (by decide +kernel) ⟨by decide, by decide⟩) rfl hl.1 rfl (Nat.le_of_ble_eq_true rfl) dL_law_355 (fun H locs Y => ?_)
  refine lv_icmp_eq (tgt := 752) hx hb dL_law_358 (by decide) (fun _ => ?_) (fun c9 => absurd ((op_place hI (xs (4 * i + 1)) (xs (4 * i + 2)) (xs (4 * i + 3))).1) c9)
  exact ih _ _ _ _ _ ((op_place hI (xs (4 * i + 1)) (xs (4 * i + 2)) (xs (4 * i + 3))).2) Y hl
set_option maxHeartbeats 4000000 in
set_option maxRecDepth 100000 in
theorem lc_push {p : Program} {l : Launch} {e : Env} {s : State} {m : MethodId} {below : List Frame} {meth : Method} {cd : Code} {b L : Nat} {xs : Nat → Int32} {D : va_G} {a a' : Nat → Nat} {c c' : Nat → ClassId} (hC : tzLw p s m meth cd b L xs D c c') {i : Nat} (hi : 4 * i + 4 ≤ L) {u v : tzS} (hI : tzInv u v) {H : Heap} {locs : List Loc} {ls : Array Slot} (Y : tzY D (fun q : Nat => s.heap.size ≤ q) s.heap (wX0 a c u ++ wX1 a' c' v) H locs) (hl : lv_has ls 4 [(0, .ref b), (1, .ref (a 16)), (2, .ref (a' 14)), (3, .int (nI (4 * i)))]) (ih : (∀ (H' : Heap) (locs' : List Loc) (ls' : Array Slot) (u' v' : tzS), tzInv u' v' → tzY D (fun q : Nat => s.heap.size ≤ q) s.heap (wX0 a c u' ++ wX1 a' c' v') H' locs' → lv_has ls' 4 [(0, .ref b), (1, .ref (a 16)), (2, .ref (a' 14)), (3, .int (nI (4 * i)))] → W p l e room_1 s m #[Value.ref b] below meth cd H' locs' 600000 7290000 (lw_Z below #[Value.ref b] s) (F0 m 752 ls' []))) : W p l e room_1 s m #[Value.ref b] below meth cd H locs 600000 7290000 (lw_Z below #[Value.ref b] s) (F0 m 363 ls []) := by
  obtain ⟨⟨hx, hb, hr, hml, hown, hts, hX, hbl, hlocks, hgv⟩, hK, hL⟩ := hC
  have hA : ∀ q : Nat, s.heap.size ≤ q → (fun q : Nat => s.heap.size ≤ q) q := fun _ h => h
  have hbA : ¬ (fun q : Nat => s.heap.size ≤ q) b := Nat.not_le.mpr hbl
  have Z : tzC p s m #[Value.ref b] cd code 4 R_law D (tX0 c ++ tX1 c') := ⟨⟨hx, hb, hml, hown, fun w h => hts w (lw_all_tbl h)⟩, hK⟩
  obtain ⟨n, t, hW, hM⟩ := inv_wf hI
  refine lv_aload_n hx hb dL_law_363 rfl (lv_at hl 1 rfl) ?_
  refine lv_aload_n hx hb dL_law_364 rfl (lv_at hl 0 rfl) ?_
  refine lv_iload_n hx hb dL_law_365 rfl (lv_at hl 3 rfl) ?_
  refine lv_iconst (v := nI 1) hx hb dL_law_366 (by decide) ?_
  refine lv_iadd hx hb dL_law_367 ?_
  refine tz_sld hx hb hX hbl hbA Y (tz_ai hi 1 (by decide)) hL dL_law_368 ?_
  refine lv_aload_n hx hb dL_law_369 rfl (lv_at hl 0 rfl) ?_
  refine lv_iload_n hx hb dL_law_370 rfl (lv_at hl 3 rfl) ?_
  refine lv_iconst (v := nI 2) hx hb dL_law_371 (by decide) ?_
  refine lv_iadd hx hb dL_law_372 ?_
  refine tz_sld hx hb hX hbl hbA Y (tz_ai hi 2 (by decide)) hL dL_law_373 ?_
  refine lv_aload_n hx hb dL_law_374 rfl (lv_at hl 0 rfl) ?_
  refine lv_iload_n hx hb dL_law_375 rfl (lv_at hl 3 rfl) ?_
  refine lv_iconst (v := nI 3) hx hb dL_law_376 (by decide) ?_
  refine lv_iadd hx hb dL_law_377 ?_
  refine tz_sld hx hb hX hbl hbA Y (tz_ai hi 3 (by decide)) hL dL_law_378 ?_
  refine tz_cL0 Z Y hA ⟨Nat.le_refl _, Nat.le_refl _⟩ (kX0_push l D a c u (xs (4 * i + 1)) (xs (4 * i + 2)) (xs (4 * i + 3))) (cwV 3 Z.1.2.2.2.2 (lw_V q129 q130 q131 q18 q132) rfl rfl rfl (by decide +kernel) ⟨by decide, by decide⟩) rfl hl.1 rfl (Nat.le_of_ble_eq_true rfl) dL_law_379 (fun H locs Y => ?_)
  refine lv_aload_n hx hb dL_law_382 rfl (lv_at hl 2 rfl) ?_
  refine lv_aload_n hx hb dL_law_383 rfl (lv_at hl 0 rfl) ?_
  refine lv_iload_n hx hb dL_law_384 rfl (lv_at hl 3 rfl) ?_
  refine lv_iconst (v := nI 1) hx hb dL_law_385 (by decide) ?_
  refine lv_iadd hx hb dL_law_386 ?_
  refine tz_sld hx hb hX hbl hbA Y (tz_ai hi 1 (by decide)) hL dL_law_387 ?_
  refine lv_aload_n hx hb dL_law_388 rfl (lv_at hl 0 rfl) ?_
  refine lv_iload_n hx hb dL_law_389 rfl (lv_at hl 3 rfl) ?_
  refine lv_iconst (v := nI 2) hx hb dL_law_390 (by decide) ?_
  refine lv_iadd hx hb dL_law_391 ?_
  refine tz_sld hx hb hX hbl hbA Y (tz_ai hi 2 (by decide)) hL dL_law_392 ?_
  refine lv_aload_n hx hb dL_law_393 rfl (lv_at hl 0 rfl) ?_
  refine lv_iload_n hx hb dL_law_394 rfl (lv_at hl 3 rfl) ?_
  refine lv_iconst (v := nI 3) hx hb dL_law_395 (by decide) ?_
  refine lv_iadd hx hb dL_law_396 ?_
  refine tz_sld hx hb hX hbl hbA Y (tz_ai hi 3 (by decide)) hL dL_law_397 ?_
  refine tz_cL1 Z Y hA ⟨Nat.le_refl _, Nat.le_refl _⟩ (kX1_push l D a' c' v (xs (4 * i + 1)) (xs (4 * i + 2)) (xs (4 * i + 3))) (cwV 3 Z.1.2.2.2.2 (lw_V q313 q314 q315 q19 q316) rfl rfl rfl (by decide +kernel) ⟨by decide, by decide⟩) rfl hl.1 rfl (Nat.le_of_ble_eq_true rfl) dL_law_398 (fun H locs Y => ?_)
  refine lv_icmp_eq (tgt := 752) hx hb dL_law_401 (by decide) (fun _ => ?_) (fun c9 => absurd ((op_push hI (xs (4 * i + 1)) (xs (4 * i + 2)) (xs (4 * i + 3))).1) c9)
  exact ih _ _ _ _ _ ((op_push hI (xs (4 * i + 1)) (xs (4 * i + 2)) (xs (4 * i + 3))).2) Y hl
set_option maxHeartbeats 4000000 in
set_option maxRecDepth 100000 in
theorem lc_shift {p : Program} {l : Launch} {e : Env} {s : State} {m : MethodId} {below : List Frame} {meth : Method} {cd : Code} {b L : Nat} {xs : Nat → Int32} {D : va_G} {a a' : Nat → Nat} {c c' : Nat → ClassId} (hC : tzLw p s m meth cd b L xs D c c') {i : Nat} (hi : 4 * i + 4 ≤ L) {u v : tzS} (hI : tzInv u v) {H : Heap} {locs : List Loc} {ls : Array Slot} (Y : tzY D (fun q : Nat => s.heap.size ≤ q) s.heap (wX0 a c u ++ wX1 a' c' v) H locs) (hl : lv_has ls 4 [(0, .ref b), (1, .ref (a 16)), (2, .ref (a' 14)), (3, .int (nI (4 * i)))]) (ih : (∀ (H' : Heap) (locs' : List Loc) (ls' : Array Slot) (u' v' : tzS), tzInv u' v' → tzY D (fun q : Nat => s.heap.size ≤ q) s.heap (wX0 a c u' ++ wX1 a' c' v') H' locs' → lv_has ls' 4 [(0, .ref b), (1, .ref (a 16)), (2, .ref (a' 14)), (3, .int (nI (4 * i)))] → W p l e room_1 s m #[Value.ref b] below meth cd H' locs' 600000 7290000 (lw_Z below #[Value.ref b] s) (F0 m 752 ls' []))) : W p l e room_1 s m #[Value.ref b] below meth cd H locs 600000 7290000 (lw_Z below #[Value.ref b] s) (F0 m 406 ls []) := by
  obtain ⟨⟨hx, hb, hr, hml, hown, hts, hX, hbl, hlocks, hgv⟩, hK, hL⟩ := hC
  have hA : ∀ q : Nat, s.heap.size ≤ q → (fun q : Nat => s.heap.size ≤ q) q := fun _ h => h
  have hbA : ¬ (fun q : Nat => s.heap.size ≤ q) b := Nat.not_le.mpr hbl
  have Z : tzC p s m #[Value.ref b] cd code 4 R_law D (tX0 c ++ tX1 c') := ⟨⟨hx, hb, hml, hown, fun w h => hts w (lw_all_tbl h)⟩, hK⟩
  obtain ⟨n, t, hW, hM⟩ := inv_wf hI
  refine lv_aload_n hx hb dL_law_406 rfl (lv_at hl 1 rfl) ?_
  refine lv_aload_n hx hb dL_law_407 rfl (lv_at hl 0 rfl) ?_
  refine lv_iload_n hx hb dL_law_408 rfl (lv_at hl 3 rfl) ?_
  refine lv_iconst (v := nI 1) hx hb dL_law_409 (by decide) ?_
  refine lv_iadd hx hb dL_law_410 ?_
  refine tz_sld hx hb hX hbl hbA Y (tz_ai hi 1 (by decide)) hL dL_law_411 ?_
  refine tz_cL0 Z Y hA ⟨Nat.le_refl _, Nat.le_refl _⟩ (kX0_shift l D a c u (xs (4 * i + 1))) (cwV 1 Z.1.2.2.2.2 (lw_V q133 q134 q135 q18 q136) rfl rfl rfl (by decide +kernel) ⟨by decide, by decide⟩) rfl hl.1 rfl (Nat.le_of_ble_eq_true rfl) dL_law_412 (fun H locs Y => ?_)
  refine lv_aload_n hx hb dL_law_415 rfl (lv_at hl 2 rfl) ?_
  refine lv_aload_n hx hb dL_law_416 rfl (lv_at hl 0 rfl) ?_
  refine lv_iload_n hx hb dL_law_417 rfl (lv_at hl 3 rfl) ?_
  refine lv_iconst (v := nI 1) hx hb dL_law_418 (by decide) ?_
  refine lv_iadd hx hb dL_law_419 ?_
  refine tz_sld hx hb hX hbl hbA Y (tz_ai hi 1 (by decide)) hL dL_law_420 ?_
  refine tz_cL1 Z Y hA ⟨Nat.le_refl _, Nat.le_refl _⟩ (kX1_shift l D a' c' v (xs (4 * i + 1))) (cwV 1 Z.1.2.2.2.2 (lw_V q317 q318 q319 q19 q320) rfl rfl rfl (by decide +kernel) ⟨by decide, by decide⟩) rfl hl.1 rfl (Nat.le_of_ble_eq_true rfl) dL_law_421 (fun H locs Y => ?_)
  refine lv_icmp_eq (tgt := 752) hx hb dL_law_424 (by decide) (fun _ => ?_) (fun c9 => absurd ((op_shift hI (xs (4 * i + 1))).1) c9)
  exact ih _ _ _ _ _ ((op_shift hI (xs (4 * i + 1))).2) Y hl
set_option maxHeartbeats 4000000 in
set_option maxRecDepth 100000 in
theorem lc_position {p : Program} {l : Launch} {e : Env} {s : State} {m : MethodId} {below : List Frame} {meth : Method} {cd : Code} {b L : Nat} {xs : Nat → Int32} {D : va_G} {a a' : Nat → Nat} {c c' : Nat → ClassId} (hC : tzLw p s m meth cd b L xs D c c') {i : Nat} (hi : 4 * i + 4 ≤ L) {u v : tzS} (hI : tzInv u v) {H : Heap} {locs : List Loc} {ls : Array Slot} (Y : tzY D (fun q : Nat => s.heap.size ≤ q) s.heap (wX0 a c u ++ wX1 a' c' v) H locs) (hl : lv_has ls 4 [(0, .ref b), (1, .ref (a 16)), (2, .ref (a' 14)), (3, .int (nI (4 * i)))]) (ih : (∀ (H' : Heap) (locs' : List Loc) (ls' : Array Slot) (u' v' : tzS), tzInv u' v' → tzY D (fun q : Nat => s.heap.size ≤ q) s.heap (wX0 a c u' ++ wX1 a' c' v') H' locs' → lv_has ls' 4 [(0, .ref b), (1, .ref (a 16)), (2, .ref (a' 14)), (3, .int (nI (4 * i)))] → W p l e room_1 s m #[Value.ref b] below meth cd H' locs' 600000 7290000 (lw_Z below #[Value.ref b] s) (F0 m 752 ls' []))) : W p l e room_1 s m #[Value.ref b] below meth cd H locs 600000 7290000 (lw_Z below #[Value.ref b] s) (F0 m 429 ls []) := by
  obtain ⟨⟨hx, hb, hr, hml, hown, hts, hX, hbl, hlocks, hgv⟩, hK, hL⟩ := hC
  have hA : ∀ q : Nat, s.heap.size ≤ q → (fun q : Nat => s.heap.size ≤ q) q := fun _ h => h
  have hbA : ¬ (fun q : Nat => s.heap.size ≤ q) b := Nat.not_le.mpr hbl
  have Z : tzC p s m #[Value.ref b] cd code 4 R_law D (tX0 c ++ tX1 c') := ⟨⟨hx, hb, hml, hown, fun w h => hts w (lw_all_tbl h)⟩, hK⟩
  obtain ⟨n, t, hW, hM⟩ := inv_wf hI
  refine lv_aload_n hx hb dL_law_429 rfl (lv_at hl 1 rfl) ?_
  refine lv_aload_n hx hb dL_law_430 rfl (lv_at hl 0 rfl) ?_
  refine lv_iload_n hx hb dL_law_431 rfl (lv_at hl 3 rfl) ?_
  refine lv_iconst (v := nI 1) hx hb dL_law_432 (by decide) ?_
  refine lv_iadd hx hb dL_law_433 ?_
  refine tz_sld hx hb hX hbl hbA Y (tz_ai hi 1 (by decide)) hL dL_law_434 ?_
  refine lv_aload_n hx hb dL_law_435 rfl (lv_at hl 0 rfl) ?_
  refine lv_iload_n hx hb dL_law_436 rfl (lv_at hl 3 rfl) ?_
  refine lv_iconst (v := nI 2) hx hb dL_law_437 (by decide) ?_
  refine lv_iadd hx hb dL_law_438 ?_
  refine tz_sld hx hb hX hbl hbA Y (tz_ai hi 2 (by decide)) hL dL_law_439 ?_
  refine tz_cL0 Z Y hA ⟨Nat.le_refl _, Nat.le_refl _⟩ (kX0_position l D a c u (xs (4 * i + 1)) (xs (4 * i + 2))) (cwV 2 Z.1.2.2.2.2 (lw_V q137 q138 q139 q18 q140) rfl rfl rfl (by decide +kernel) ⟨by decide, by decide⟩) rfl hl.1 rfl (Nat.le_of_ble_eq_true rfl) dL_law_440 (fun H locs Y => ?_)
  refine lv_aload_n hx hb dL_law_443 rfl (lv_at hl 2 rfl) ?_
  refine lv_aload_n hx hb dL_law_444 rfl (lv_at hl 0 rfl) ?_
  refine lv_iload_n hx hb dL_law_445 rfl (lv_at hl 3 rfl) ?_
  refine lv_iconst (v := nI 1) hx hb dL_law_446 (by decide) ?_
  refine lv_iadd hx hb dL_law_447 ?_
  refine tz_sld hx hb hX hbl hbA Y (tz_ai hi 1 (by decide)) hL dL_law_448 ?_
  refine lv_aload_n hx hb dL_law_449 rfl (lv_at hl 0 rfl) ?_
  refine lv_iload_n hx hb dL_law_450 rfl (lv_at hl 3 rfl) ?_
  refine lv_iconst (v := nI 2) hx hb dL_law_451 (by decide) ?_
  refine lv_iadd hx hb dL_law_452 ?_
  refine tz_sld hx hb hX hbl hbA Y (tz_ai hi 2 (by decide)) hL dL_law_453 ?_
  refine tz_cL1 Z Y hA ⟨Nat.le_refl _, Nat.le_refl _⟩ (kX1_position l D a' c' v (xs (4 * i + 1)) (xs (4 * i + 2))) (cwV 2 Z.1.2.2.2.2 (lw_V q321 q322 q323 q19 q324) rfl rfl rfl (by decide +kernel) ⟨by decide, by decide⟩) rfl hl.1 rfl (Nat.le_of_ble_eq_true rfl) dL_law_454 (fun H locs Y => ?_)
  refine lv_icmp_eq (tgt := 752) hx hb dL_law_457 (by decide) (fun _ => ?_) (fun c9 => absurd (op_position hI (xs (4 * i + 1)) (xs (4 * i + 2))) c9)
  exact ih _ _ _ _ _ (hI) Y hl
set_option maxHeartbeats 4000000 in
set_option maxRecDepth 100000 in
theorem lc_momentum {p : Program} {l : Launch} {e : Env} {s : State} {m : MethodId} {below : List Frame} {meth : Method} {cd : Code} {b L : Nat} {xs : Nat → Int32} {D : va_G} {a a' : Nat → Nat} {c c' : Nat → ClassId} (hC : tzLw p s m meth cd b L xs D c c') {i : Nat} (hi : 4 * i + 4 ≤ L) {u v : tzS} (hI : tzInv u v) {H : Heap} {locs : List Loc} {ls : Array Slot} (Y : tzY D (fun q : Nat => s.heap.size ≤ q) s.heap (wX0 a c u ++ wX1 a' c' v) H locs) (hl : lv_has ls 4 [(0, .ref b), (1, .ref (a 16)), (2, .ref (a' 14)), (3, .int (nI (4 * i)))]) (ih : (∀ (H' : Heap) (locs' : List Loc) (ls' : Array Slot) (u' v' : tzS), tzInv u' v' → tzY D (fun q : Nat => s.heap.size ≤ q) s.heap (wX0 a c u' ++ wX1 a' c' v') H' locs' → lv_has ls' 4 [(0, .ref b), (1, .ref (a 16)), (2, .ref (a' 14)), (3, .int (nI (4 * i)))] → W p l e room_1 s m #[Value.ref b] below meth cd H' locs' 600000 7290000 (lw_Z below #[Value.ref b] s) (F0 m 752 ls' []))) : W p l e room_1 s m #[Value.ref b] below meth cd H locs 600000 7290000 (lw_Z below #[Value.ref b] s) (F0 m 462 ls []) := by
  obtain ⟨⟨hx, hb, hr, hml, hown, hts, hX, hbl, hlocks, hgv⟩, hK, hL⟩ := hC
  have hA : ∀ q : Nat, s.heap.size ≤ q → (fun q : Nat => s.heap.size ≤ q) q := fun _ h => h
  have hbA : ¬ (fun q : Nat => s.heap.size ≤ q) b := Nat.not_le.mpr hbl
  have Z : tzC p s m #[Value.ref b] cd code 4 R_law D (tX0 c ++ tX1 c') := ⟨⟨hx, hb, hml, hown, fun w h => hts w (lw_all_tbl h)⟩, hK⟩
  obtain ⟨n, t, hW, hM⟩ := inv_wf hI
  refine lv_aload_n hx hb dL_law_462 rfl (lv_at hl 1 rfl) ?_
  refine lv_aload_n hx hb dL_law_463 rfl (lv_at hl 0 rfl) ?_
  refine lv_iload_n hx hb dL_law_464 rfl (lv_at hl 3 rfl) ?_
  refine lv_iconst (v := nI 1) hx hb dL_law_465 (by decide) ?_
  refine lv_iadd hx hb dL_law_466 ?_
  refine tz_sld hx hb hX hbl hbA Y (tz_ai hi 1 (by decide)) hL dL_law_467 ?_
  refine lv_aload_n hx hb dL_law_468 rfl (lv_at hl 0 rfl) ?_
  refine lv_iload_n hx hb dL_law_469 rfl (lv_at hl 3 rfl) ?_
  refine lv_iconst (v := nI 2) hx hb dL_law_470 (by decide) ?_
  refine lv_iadd hx hb dL_law_471 ?_
  refine tz_sld hx hb hX hbl hbA Y (tz_ai hi 2 (by decide)) hL dL_law_472 ?_
  refine tz_cL0 Z Y hA ⟨Nat.le_refl _, Nat.le_refl _⟩ (kX0_momentum l D a c u (xs (4 * i + 1)) (xs (4 * i + 2))) (cwV 2 Z.1.2.2.2.2 (lw_V q141 q142 q143 q18 q144) rfl rfl rfl (by decide +kernel) ⟨by decide, by decide⟩) rfl hl.1 rfl (Nat.le_of_ble_eq_true rfl) dL_law_473 (fun H locs Y => ?_)
  refine lv_aload_n hx hb dL_law_476 rfl (lv_at hl 2 rfl) ?_
  refine lv_aload_n hx hb dL_law_477 rfl (lv_at hl 0 rfl) ?_
  refine lv_iload_n hx hb dL_law_478 rfl (lv_at hl 3 rfl) ?_
  refine lv_iconst (v := nI 1) hx hb dL_law_479 (by decide) ?_
  refine lv_iadd hx hb dL_law_480 ?_
  refine tz_sld hx hb hX hbl hbA Y (tz_ai hi 1 (by decide)) hL dL_law_481 ?_
  refine lv_aload_n hx hb dL_law_482 rfl (lv_at hl 0 rfl) ?_
  refine lv_iload_n hx hb dL_law_483 rfl (lv_at hl 3 rfl) ?_
  refine lv_iconst (v := nI 2) hx hb dL_law_484 (by decide) ?_
  refine lv_iadd hx hb dL_law_485 ?_
  refine tz_sld hx hb hX hbl hbA Y (tz_ai hi 2 (by decide)) hL dL_law_486 ?_
  refine tz_cL1 Z Y hA ⟨Nat.le_refl _, Nat.le_refl _⟩ (kX1_momentum l D a' c' v (xs (4 * i + 1)) (xs (4 * i + 2))) (cwV 2 Z.1.2.2.2.2 (lw_V q325 q326 q327 q19 q328) rfl rfl rfl (by decide +kernel) ⟨by decide, by decide⟩) rfl hl.1 rfl (Nat.le_of_ble_eq_true rfl) dL_law_487 (fun H locs Y => ?_)
  refine lv_icmp_eq (tgt := 752) hx hb dL_law_490 (by decide) (fun _ => ?_) (fun c9 => absurd (op_momentum hI (xs (4 * i + 1)) (xs (4 * i + 2))) c9)
  exact ih _ _ _ _ _ (hI) Y hl
set_option maxHeartbeats 4000000 in
set_option maxRecDepth 100000 in
theorem lc_valueOf {p : Program} {l : Launch} {e : Env} {s : State} {m : MethodId} {below : List Frame} {meth : Method} {cd : Code} {b L : Nat} {xs : Nat → Int32} {D : va_G} {a a' : Nat → Nat} {c c' : Nat → ClassId} (hC : tzLw p s m meth cd b L xs D c c') {i : Nat} (hi : 4 * i + 4 ≤ L) {u v : tzS} (hI : tzInv u v) {H : Heap} {locs : List Loc} {ls : Array Slot} (Y : tzY D (fun q : Nat => s.heap.size ≤ q) s.heap (wX0 a c u ++ wX1 a' c' v) H locs) (hl : lv_has ls 4 [(0, .ref b), (1, .ref (a 16)), (2, .ref (a' 14)), (3, .int (nI (4 * i)))]) (ih : (∀ (H' : Heap) (locs' : List Loc) (ls' : Array Slot) (u' v' : tzS), tzInv u' v' → tzY D (fun q : Nat => s.heap.size ≤ q) s.heap (wX0 a c u' ++ wX1 a' c' v') H' locs' → lv_has ls' 4 [(0, .ref b), (1, .ref (a 16)), (2, .ref (a' 14)), (3, .int (nI (4 * i)))] → W p l e room_1 s m #[Value.ref b] below meth cd H' locs' 600000 7290000 (lw_Z below #[Value.ref b] s) (F0 m 752 ls' []))) : W p l e room_1 s m #[Value.ref b] below meth cd H locs 600000 7290000 (lw_Z below #[Value.ref b] s) (F0 m 495 ls []) := by
  obtain ⟨⟨hx, hb, hr, hml, hown, hts, hX, hbl, hlocks, hgv⟩, hK, hL⟩ := hC
  have hA : ∀ q : Nat, s.heap.size ≤ q → (fun q : Nat => s.heap.size ≤ q) q := fun _ h => h
  have hbA : ¬ (fun q : Nat => s.heap.size ≤ q) b := Nat.not_le.mpr hbl
  have Z : tzC p s m #[Value.ref b] cd code 4 R_law D (tX0 c ++ tX1 c') := ⟨⟨hx, hb, hml, hown, fun w h => hts w (lw_all_tbl h)⟩, hK⟩
  obtain ⟨n, t, hW, hM⟩ := inv_wf hI
  refine lv_aload_n hx hb dL_law_495 rfl (lv_at hl 1 rfl) ?_
  refine lv_aload_n hx hb dL_law_496 rfl (lv_at hl 0 rfl) ?_
  refine lv_iload_n hx hb dL_law_497 rfl (lv_at hl 3 rfl) ?_
  refine lv_iconst (v := nI 1) hx hb dL_law_498 (by decide) ?_
  refine lv_iadd hx hb dL_law_499 ?_
  refine tz_sld hx hb hX hbl hbA Y (tz_ai hi 1 (by decide)) hL dL_law_500 ?_
  refine lv_aload_n hx hb dL_law_501 rfl (lv_at hl 0 rfl) ?_
  refine lv_iload_n hx hb dL_law_502 rfl (lv_at hl 3 rfl) ?_
  refine lv_iconst (v := nI 2) hx hb dL_law_503 (by decide) ?_
  refine lv_iadd hx hb dL_law_504 ?_
  refine tz_sld hx hb hX hbl hbA Y (tz_ai hi 2 (by decide)) hL dL_law_505 ?_
  refine tz_cL0 Z Y hA ⟨Nat.le_refl _, Nat.le_refl _⟩ (kX0_valueOf l D a c u (xs (4 * i + 1)) (xs (4 * i + 2)) hW) (cwV 2 Z.1.2.2.2.2 (lw_V q145 q146 q147 q18 q148) rfl rfl rfl (by decide +kernel) ⟨by decide, by decide⟩) rfl hl.1 rfl (Nat.le_of_ble_eq_true rfl) dL_law_506 (fun H locs Y => ?_)
  refine lv_aload_n hx hb dL_law_509 rfl (lv_at hl 2 rfl) ?_
  refine lv_aload_n hx hb dL_law_510 rfl (lv_at hl 0 rfl) ?_
  refine lv_iload_n hx hb dL_law_511 rfl (lv_at hl 3 rfl) ?_
  refine lv_iconst (v := nI 1) hx hb dL_law_512 (by decide) ?_
  refine lv_iadd hx hb dL_law_513 ?_
  refine tz_sld hx hb hX hbl hbA Y (tz_ai hi 1 (by decide)) hL dL_law_514 ?_
  refine lv_aload_n hx hb dL_law_515 rfl (lv_at hl 0 rfl) ?_
  refine lv_iload_n hx hb dL_law_516 rfl (lv_at hl 3 rfl) ?_
  refine lv_iconst (v := nI 2) hx hb dL_law_517 (by decide) ?_
  refine lv_iadd hx hb dL_law_518 ?_
  refine tz_sld hx hb hX hbl hbA Y (tz_ai hi 2 (by decide)) hL dL_law_519 ?_
  refine tz_cL1 Z Y hA ⟨Nat.le_refl _, Nat.le_refl _⟩ (kX1_valueOf l D a' c' v (xs (4 * i + 1)) (xs (4 * i + 2)) hM) (cwV 2 Z.1.2.2.2.2 (lw_V q329 q330 q331 q19 q332) rfl rfl rfl (by decide +kernel) ⟨by decide, by decide⟩) rfl hl.1 rfl (Nat.le_of_ble_eq_true rfl) dL_law_520 (fun H locs Y => ?_)
  refine lv_icmp_eq (tgt := 752) hx hb dL_law_523 (by decide) (fun _ => ?_) (fun c9 => absurd ((op_valueOf hI (xs (4 * i + 1)) (xs (4 * i + 2))).1) c9)
  exact ih _ _ _ _ _ ((op_valueOf hI (xs (4 * i + 1)) (xs (4 * i + 2))).2) Y hl
set_option maxHeartbeats 4000000 in
set_option maxRecDepth 100000 in
theorem lc_target {p : Program} {l : Launch} {e : Env} {s : State} {m : MethodId} {below : List Frame} {meth : Method} {cd : Code} {b L : Nat} {xs : Nat → Int32} {D : va_G} {a a' : Nat → Nat} {c c' : Nat → ClassId} (hC : tzLw p s m meth cd b L xs D c c') {i : Nat} (hi : 4 * i + 4 ≤ L) {u v : tzS} (hI : tzInv u v) {H : Heap} {locs : List Loc} {ls : Array Slot} (Y : tzY D (fun q : Nat => s.heap.size ≤ q) s.heap (wX0 a c u ++ wX1 a' c' v) H locs) (hl : lv_has ls 4 [(0, .ref b), (1, .ref (a 16)), (2, .ref (a' 14)), (3, .int (nI (4 * i)))]) (ih : (∀ (H' : Heap) (locs' : List Loc) (ls' : Array Slot) (u' v' : tzS), tzInv u' v' → tzY D (fun q : Nat => s.heap.size ≤ q) s.heap (wX0 a c u' ++ wX1 a' c' v') H' locs' → lv_has ls' 4 [(0, .ref b), (1, .ref (a 16)), (2, .ref (a' 14)), (3, .int (nI (4 * i)))] → W p l e room_1 s m #[Value.ref b] below meth cd H' locs' 600000 7290000 (lw_Z below #[Value.ref b] s) (F0 m 752 ls' []))) : W p l e room_1 s m #[Value.ref b] below meth cd H locs 600000 7290000 (lw_Z below #[Value.ref b] s) (F0 m 528 ls []) := by
  obtain ⟨⟨hx, hb, hr, hml, hown, hts, hX, hbl, hlocks, hgv⟩, hK, hL⟩ := hC
  have hA : ∀ q : Nat, s.heap.size ≤ q → (fun q : Nat => s.heap.size ≤ q) q := fun _ h => h
  have hbA : ¬ (fun q : Nat => s.heap.size ≤ q) b := Nat.not_le.mpr hbl
  have Z : tzC p s m #[Value.ref b] cd code 4 R_law D (tX0 c ++ tX1 c') := ⟨⟨hx, hb, hml, hown, fun w h => hts w (lw_all_tbl h)⟩, hK⟩
  obtain ⟨n, t, hW, hM⟩ := inv_wf hI
  refine lv_aload_n hx hb dL_law_528 rfl (lv_at hl 1 rfl) ?_
  refine lv_aload_n hx hb dL_law_529 rfl (lv_at hl 0 rfl) ?_
  refine lv_iload_n hx hb dL_law_530 rfl (lv_at hl 3 rfl) ?_
  refine lv_iconst (v := nI 1) hx hb dL_law_531 (by decide) ?_
  refine lv_iadd hx hb dL_law_532 ?_
  refine tz_sld hx hb hX hbl hbA Y (tz_ai hi 1 (by decide)) hL dL_law_533 ?_
  refine tz_cL0 Z Y hA ⟨Nat.le_refl _, Nat.le_refl _⟩ (kX0_target l D a c u (xs (4 * i + 1)) hW) (cwV 1 Z.1.2.2.2.2 (lw_V q153 q154 q155 q18 q156) rfl rfl rfl (by decide +kernel) ⟨by decide, by decide⟩) rfl hl.1 rfl (Nat.le_of_ble_eq_true rfl) dL_law_534 (fun H locs Y => ?_)
  refine lv_aload_n hx hb dL_law_537 rfl (lv_at hl 2 rfl) ?_
  refine lv_aload_n hx hb dL_law_538 rfl (lv_at hl 0 rfl) ?_
  refine lv_iload_n hx hb dL_law_539 rfl (lv_at hl 3 rfl) ?_
  refine lv_iconst (v := nI 1) hx hb dL_law_540 (by decide) ?_
  refine lv_iadd hx hb dL_law_541 ?_
  refine tz_sld hx hb hX hbl hbA Y (tz_ai hi 1 (by decide)) hL dL_law_542 ?_
  refine tz_cL1 Z Y hA ⟨Nat.le_refl _, Nat.le_refl _⟩ (kX1_target l D a' c' v (xs (4 * i + 1)) hM) (cwV 1 Z.1.2.2.2.2 (lw_V q337 q338 q339 q19 q340) rfl rfl rfl (by decide +kernel) ⟨by decide, by decide⟩) rfl hl.1 rfl (Nat.le_of_ble_eq_true rfl) dL_law_543 (fun H locs Y => ?_)
  refine lv_icmp_eq (tgt := 752) hx hb dL_law_546 (by decide) (fun _ => ?_) (fun c9 => absurd ((op_target hI (xs (4 * i + 1))).1) c9)
  exact ih _ _ _ _ _ ((op_target hI (xs (4 * i + 1))).2) Y hl
set_option maxHeartbeats 4000000 in
set_option maxRecDepth 100000 in
theorem lc_slope {p : Program} {l : Launch} {e : Env} {s : State} {m : MethodId} {below : List Frame} {meth : Method} {cd : Code} {b L : Nat} {xs : Nat → Int32} {D : va_G} {a a' : Nat → Nat} {c c' : Nat → ClassId} (hC : tzLw p s m meth cd b L xs D c c') {i : Nat} (hi : 4 * i + 4 ≤ L) {u v : tzS} (hI : tzInv u v) {H : Heap} {locs : List Loc} {ls : Array Slot} (Y : tzY D (fun q : Nat => s.heap.size ≤ q) s.heap (wX0 a c u ++ wX1 a' c' v) H locs) (hl : lv_has ls 4 [(0, .ref b), (1, .ref (a 16)), (2, .ref (a' 14)), (3, .int (nI (4 * i)))]) (ih : (∀ (H' : Heap) (locs' : List Loc) (ls' : Array Slot) (u' v' : tzS), tzInv u' v' → tzY D (fun q : Nat => s.heap.size ≤ q) s.heap (wX0 a c u' ++ wX1 a' c' v') H' locs' → lv_has ls' 4 [(0, .ref b), (1, .ref (a 16)), (2, .ref (a' 14)), (3, .int (nI (4 * i)))] → W p l e room_1 s m #[Value.ref b] below meth cd H' locs' 600000 7290000 (lw_Z below #[Value.ref b] s) (F0 m 752 ls' []))) : W p l e room_1 s m #[Value.ref b] below meth cd H locs 600000 7290000 (lw_Z below #[Value.ref b] s) (F0 m 551 ls []) := by
  obtain ⟨⟨hx, hb, hr, hml, hown, hts, hX, hbl, hlocks, hgv⟩, hK, hL⟩ := hC
  have hA : ∀ q : Nat, s.heap.size ≤ q → (fun q : Nat => s.heap.size ≤ q) q := fun _ h => h
  have hbA : ¬ (fun q : Nat => s.heap.size ≤ q) b := Nat.not_le.mpr hbl
  have Z : tzC p s m #[Value.ref b] cd code 4 R_law D (tX0 c ++ tX1 c') := ⟨⟨hx, hb, hml, hown, fun w h => hts w (lw_all_tbl h)⟩, hK⟩
  obtain ⟨n, t, hW, hM⟩ := inv_wf hI
  refine lv_aload_n hx hb dL_law_551 rfl (lv_at hl 1 rfl) ?_
  refine lv_aload_n hx hb dL_law_552 rfl (lv_at hl 0 rfl) ?_
  refine lv_iload_n hx hb dL_law_553 rfl (lv_at hl 3 rfl) ?_
  refine lv_iconst (v := nI 1) hx hb dL_law_554 (by decide) ?_
  refine lv_iadd hx hb dL_law_555 ?_
  refine tz_sld hx hb hX hbl hbA Y (tz_ai hi 1 (by decide)) hL dL_law_556 ?_
  refine lv_aload_n hx hb dL_law_557 rfl (lv_at hl 0 rfl) ?_
  refine lv_iload_n hx hb dL_law_558 rfl (lv_at hl 3 rfl) ?_
  refine lv_iconst (v := nI 2) hx hb dL_law_559 (by decide) ?_
  refine lv_iadd hx hb dL_law_560 ?_
  refine tz_sld hx hb hX hbl hbA Y (tz_ai hi 2 (by decide)) hL dL_law_561 ?_
  refine tz_cL0 Z Y hA ⟨Nat.le_refl _, Nat.le_refl _⟩ (kX0_slope l D a c u (xs (4 * i + 1)) (xs (4 * i + 2)) hW) (cwV 2 Z.1.2.2.2.2 (lw_V q168 q169 q170 q18 q171) rfl rfl rfl (by decide +kernel) ⟨by decide, by decide⟩) rfl hl.1 rfl (Nat.le_of_ble_eq_true rfl) dL_law_562 (fun H locs Y => ?_)
  refine lv_aload_n hx hb dL_law_565 rfl (lv_at hl 2 rfl) ?_
  refine lv_aload_n hx hb dL_law_566 rfl (lv_at hl 0 rfl) ?_
  refine lv_iload_n hx hb dL_law_567 rfl (lv_at hl 3 rfl) ?_
  refine lv_iconst (v := nI 1) hx hb dL_law_568 (by decide) ?_
  refine lv_iadd hx hb dL_law_569 ?_
  refine tz_sld hx hb hX hbl hbA Y (tz_ai hi 1 (by decide)) hL dL_law_570 ?_
  refine lv_aload_n hx hb dL_law_571 rfl (lv_at hl 0 rfl) ?_
  refine lv_iload_n hx hb dL_law_572 rfl (lv_at hl 3 rfl) ?_
  refine lv_iconst (v := nI 2) hx hb dL_law_573 (by decide) ?_
  refine lv_iadd hx hb dL_law_574 ?_
  refine tz_sld hx hb hX hbl hbA Y (tz_ai hi 2 (by decide)) hL dL_law_575 ?_
  refine tz_cL1 Z Y hA ⟨Nat.le_refl _, Nat.le_refl _⟩ (kX1_slope l D a' c' v (xs (4 * i + 1)) (xs (4 * i + 2)) hM) (cwV 2 Z.1.2.2.2.2 (lw_V q345 q346 q347 q19 q348) rfl rfl rfl (by decide +kernel) ⟨by decide, by decide⟩) rfl hl.1 rfl (Nat.le_of_ble_eq_true rfl) dL_law_576 (fun H locs Y => ?_)
  refine lv_icmp_eq (tgt := 752) hx hb dL_law_579 (by decide) (fun _ => ?_) (fun c9 => absurd ((op_slope hI (xs (4 * i + 1)) (xs (4 * i + 2))).1) c9)
  exact ih _ _ _ _ _ ((op_slope hI (xs (4 * i + 1)) (xs (4 * i + 2))).2) Y hl
set_option maxHeartbeats 4000000 in
set_option maxRecDepth 100000 in
theorem lc_drift {p : Program} {l : Launch} {e : Env} {s : State} {m : MethodId} {below : List Frame} {meth : Method} {cd : Code} {b L : Nat} {xs : Nat → Int32} {D : va_G} {a a' : Nat → Nat} {c c' : Nat → ClassId} (hC : tzLw p s m meth cd b L xs D c c') {i : Nat} (hi : 4 * i + 4 ≤ L) {u v : tzS} (hI : tzInv u v) {H : Heap} {locs : List Loc} {ls : Array Slot} (Y : tzY D (fun q : Nat => s.heap.size ≤ q) s.heap (wX0 a c u ++ wX1 a' c' v) H locs) (hl : lv_has ls 4 [(0, .ref b), (1, .ref (a 16)), (2, .ref (a' 14)), (3, .int (nI (4 * i)))]) (ih : (∀ (H' : Heap) (locs' : List Loc) (ls' : Array Slot) (u' v' : tzS), tzInv u' v' → tzY D (fun q : Nat => s.heap.size ≤ q) s.heap (wX0 a c u' ++ wX1 a' c' v') H' locs' → lv_has ls' 4 [(0, .ref b), (1, .ref (a 16)), (2, .ref (a' 14)), (3, .int (nI (4 * i)))] → W p l e room_1 s m #[Value.ref b] below meth cd H' locs' 600000 7290000 (lw_Z below #[Value.ref b] s) (F0 m 752 ls' []))) : W p l e room_1 s m #[Value.ref b] below meth cd H locs 600000 7290000 (lw_Z below #[Value.ref b] s) (F0 m 584 ls []) := by
  obtain ⟨⟨hx, hb, hr, hml, hown, hts, hX, hbl, hlocks, hgv⟩, hK, hL⟩ := hC
  have hA : ∀ q : Nat, s.heap.size ≤ q → (fun q : Nat => s.heap.size ≤ q) q := fun _ h => h
  have hbA : ¬ (fun q : Nat => s.heap.size ≤ q) b := Nat.not_le.mpr hbl
  have Z : tzC p s m #[Value.ref b] cd code 4 R_law D (tX0 c ++ tX1 c') := ⟨⟨hx, hb, hml, hown, fun w h => hts w (lw_all_tbl h)⟩, hK⟩
  obtain ⟨n, t, hW, hM⟩ := inv_wf hI
  refine lv_aload_n hx hb dL_law_584 rfl (lv_at hl 1 rfl) ?_
  refine lv_aload_n hx hb dL_law_585 rfl (lv_at hl 0 rfl) ?_
  refine lv_iload_n hx hb dL_law_586 rfl (lv_at hl 3 rfl) ?_
  refine lv_iconst (v := nI 1) hx hb dL_law_587 (by decide) ?_
  refine lv_iadd hx hb dL_law_588 ?_
  refine tz_sld hx hb hX hbl hbA Y (tz_ai hi 1 (by decide)) hL dL_law_589 ?_
  refine tz_cL0 Z Y hA ⟨Nat.le_refl _, Nat.le_refl _⟩ (kX0_drift l D a c u (xs (4 * i + 1)) hW) (cwV 1 Z.1.2.2.2.2 (lw_V q180 q181 q182 q18 q183) rfl rfl rfl (by decide +kernel) ⟨by decide, by decide⟩) rfl hl.1 rfl (Nat.le_of_ble_eq_true rfl) dL_law_590 (fun H locs Y => ?_)
  refine lv_aload_n hx hb dL_law_593 rfl (lv_at hl 2 rfl) ?_
  refine lv_aload_n hx hb dL_law_594 rfl (lv_at hl 0 rfl) ?_
  refine lv_iload_n hx hb dL_law_595 rfl (lv_at hl 3 rfl) ?_
  refine lv_iconst (v := nI 1) hx hb dL_law_596 (by decide) ?_
  refine lv_iadd hx hb dL_law_597 ?_
  refine tz_sld hx hb hX hbl hbA Y (tz_ai hi 1 (by decide)) hL dL_law_598 ?_
  refine tz_cL1 Z Y hA ⟨Nat.le_refl _, Nat.le_refl _⟩ (kX1_drift l D a' c' v (xs (4 * i + 1)) hM) (cwV 1 Z.1.2.2.2.2 (lw_V q353 q354 q355 q19 q356) rfl rfl rfl (by decide +kernel) ⟨by decide, by decide⟩) rfl hl.1 rfl (Nat.le_of_ble_eq_true rfl) dL_law_599 (fun H locs Y => ?_)
  refine lv_icmp_eq (tgt := 752) hx hb dL_law_602 (by decide) (fun _ => ?_) (fun c9 => absurd ((op_drift hI (xs (4 * i + 1))).1) c9)
  exact ih _ _ _ _ _ ((op_drift hI (xs (4 * i + 1))).2) Y hl
set_option maxHeartbeats 4000000 in
set_option maxRecDepth 100000 in
theorem lc_targetAt {p : Program} {l : Launch} {e : Env} {s : State} {m : MethodId} {below : List Frame} {meth : Method} {cd : Code} {b L : Nat} {xs : Nat → Int32} {D : va_G} {a a' : Nat → Nat} {c c' : Nat → ClassId} (hC : tzLw p s m meth cd b L xs D c c') {i : Nat} (hi : 4 * i + 4 ≤ L) {u v : tzS} (hI : tzInv u v) {H : Heap} {locs : List Loc} {ls : Array Slot} (Y : tzY D (fun q : Nat => s.heap.size ≤ q) s.heap (wX0 a c u ++ wX1 a' c' v) H locs) (hl : lv_has ls 4 [(0, .ref b), (1, .ref (a 16)), (2, .ref (a' 14)), (3, .int (nI (4 * i)))]) (ih : (∀ (H' : Heap) (locs' : List Loc) (ls' : Array Slot) (u' v' : tzS), tzInv u' v' → tzY D (fun q : Nat => s.heap.size ≤ q) s.heap (wX0 a c u' ++ wX1 a' c' v') H' locs' → lv_has ls' 4 [(0, .ref b), (1, .ref (a 16)), (2, .ref (a' 14)), (3, .int (nI (4 * i)))] → W p l e room_1 s m #[Value.ref b] below meth cd H' locs' 600000 7290000 (lw_Z below #[Value.ref b] s) (F0 m 752 ls' []))) : W p l e room_1 s m #[Value.ref b] below meth cd H locs 600000 7290000 (lw_Z below #[Value.ref b] s) (F0 m 607 ls []) := by
  obtain ⟨⟨hx, hb, hr, hml, hown, hts, hX, hbl, hlocks, hgv⟩, hK, hL⟩ := hC
  have hA : ∀ q : Nat, s.heap.size ≤ q → (fun q : Nat => s.heap.size ≤ q) q := fun _ h => h
  have hbA : ¬ (fun q : Nat => s.heap.size ≤ q) b := Nat.not_le.mpr hbl
  have Z : tzC p s m #[Value.ref b] cd code 4 R_law D (tX0 c ++ tX1 c') := ⟨⟨hx, hb, hml, hown, fun w h => hts w (lw_all_tbl h)⟩, hK⟩
  obtain ⟨n, t, hW, hM⟩ := inv_wf hI
  refine lv_aload_n hx hb dL_law_607 rfl (lv_at hl 1 rfl) ?_
  refine lv_aload_n hx hb dL_law_608 rfl (lv_at hl 0 rfl) ?_
  refine lv_iload_n hx hb dL_law_609 rfl (lv_at hl 3 rfl) ?_
  refine lv_iconst (v := nI 1) hx hb dL_law_610 (by decide) ?_
  refine lv_iadd hx hb dL_law_611 ?_
  refine tz_sld hx hb hX hbl hbA Y (tz_ai hi 1 (by decide)) hL dL_law_612 ?_
  refine lv_aload_n hx hb dL_law_613 rfl (lv_at hl 0 rfl) ?_
  refine lv_iload_n hx hb dL_law_614 rfl (lv_at hl 3 rfl) ?_
  refine lv_iconst (v := nI 2) hx hb dL_law_615 (by decide) ?_
  refine lv_iadd hx hb dL_law_616 ?_
  refine tz_sld hx hb hX hbl hbA Y (tz_ai hi 2 (by decide)) hL dL_law_617 ?_
  refine lv_aload_n hx hb dL_law_618 rfl (lv_at hl 0 rfl) ?_
  refine lv_iload_n hx hb dL_law_619 rfl (lv_at hl 3 rfl) ?_
  refine lv_iconst (v := nI 3) hx hb dL_law_620 (by decide) ?_
  refine lv_iadd hx hb dL_law_621 ?_
  refine tz_sld hx hb hX hbl hbA Y (tz_ai hi 3 (by decide)) hL dL_law_622 ?_
  refine tz_cL0 Z Y hA ⟨Nat.le_refl _, Nat.le_refl _⟩ (kX0_targetAt l D a c u (xs (4 * i + 1)) (xs (4 * i + 2)) (xs (4 * i + 3)) hW) (cwV 3 Z.1.2.2.2.2 (lw_V q188 q189 q190 q18 q191) rfl rfl rfl (by decide +kernel) ⟨by decide, by decide⟩) rfl hl.1 rfl (Nat.le_of_ble_eq_true rfl) dL_law_623 (fun H locs Y => ?_)
  refine lv_aload_n hx hb dL_law_626 rfl (lv_at hl 2 rfl) ?_
  refine lv_aload_n hx hb dL_law_627 rfl (lv_at hl 0 rfl) ?_
  refine lv_iload_n hx hb dL_law_628 rfl (lv_at hl 3 rfl) ?_
  refine lv_iconst (v := nI 1) hx hb dL_law_629 (by decide) ?_
  refine lv_iadd hx hb dL_law_630 ?_
  refine tz_sld hx hb hX hbl hbA Y (tz_ai hi 1 (by decide)) hL dL_law_631 ?_
  refine lv_aload_n hx hb dL_law_632 rfl (lv_at hl 0 rfl) ?_
  refine lv_iload_n hx hb dL_law_633 rfl (lv_at hl 3 rfl) ?_
  refine lv_iconst (v := nI 2) hx hb dL_law_634 (by decide) ?_
  refine lv_iadd hx hb dL_law_635 ?_
  refine tz_sld hx hb hX hbl hbA Y (tz_ai hi 2 (by decide)) hL dL_law_636 ?_
  refine lv_aload_n hx hb dL_law_637 rfl (lv_at hl 0 rfl) ?_
  refine lv_iload_n hx hb dL_law_638 rfl (lv_at hl 3 rfl) ?_
  refine lv_iconst (v := nI 3) hx hb dL_law_639 (by decide) ?_
  refine lv_iadd hx hb dL_law_640 ?_
  refine tz_sld hx hb hX hbl hbA Y (tz_ai hi 3 (by decide)) hL dL_law_641 ?_
  refine tz_cL1 Z Y hA ⟨Nat.le_refl _, Nat.le_refl _⟩ (kX1_targetAt l D a' c' v (xs (4 * i + 1)) (xs (4 * i + 2)) (xs (4 * i + 3)) hM) (cwV 3 Z.1.2.2.2.2 (lw_V q357 q358 q359 q19 q360) rfl rfl rfl (by decide +kernel) ⟨by decide, by decide⟩) rfl hl.1 rfl (Nat.le_of_ble_eq_true rfl) dL_law_642 (fun H locs Y => ?_)
  refine lv_icmp_eq (tgt := 752) hx hb dL_law_645 (by decide) (fun _ => ?_) (fun c9 => absurd ((op_targetAt hI (xs (4 * i + 1)) (xs (4 * i + 2)) (xs (4 * i + 3))).1) c9)
  exact ih _ _ _ _ _ ((op_targetAt hI (xs (4 * i + 1)) (xs (4 * i + 2)) (xs (4 * i + 3))).2) Y hl
set_option maxHeartbeats 4000000 in
set_option maxRecDepth 100000 in
theorem lc_leap {p : Program} {l : Launch} {e : Env} {s : State} {m : MethodId} {below : List Frame} {meth : Method} {cd : Code} {b L : Nat} {xs : Nat → Int32} {D : va_G} {a a' : Nat → Nat} {c c' : Nat → ClassId} (hC : tzLw p s m meth cd b L xs D c c') {i : Nat} (hi : 4 * i + 4 ≤ L) {u v : tzS} (hI : tzInv u v) {H : Heap} {locs : List Loc} {ls : Array Slot} (Y : tzY D (fun q : Nat => s.heap.size ≤ q) s.heap (wX0 a c u ++ wX1 a' c' v) H locs) (hl : lv_has ls 4 [(0, .ref b), (1, .ref (a 16)), (2, .ref (a' 14)), (3, .int (nI (4 * i)))]) (ih : (∀ (H' : Heap) (locs' : List Loc) (ls' : Array Slot) (u' v' : tzS), tzInv u' v' → tzY D (fun q : Nat => s.heap.size ≤ q) s.heap (wX0 a c u' ++ wX1 a' c' v') H' locs' → lv_has ls' 4 [(0, .ref b), (1, .ref (a 16)), (2, .ref (a' 14)), (3, .int (nI (4 * i)))] → W p l e room_1 s m #[Value.ref b] below meth cd H' locs' 600000 7290000 (lw_Z below #[Value.ref b] s) (F0 m 752 ls' []))) : W p l e room_1 s m #[Value.ref b] below meth cd H locs 600000 7290000 (lw_Z below #[Value.ref b] s) (F0 m 650 ls []) := by
  obtain ⟨⟨hx, hb, hr, hml, hown, hts, hX, hbl, hlocks, hgv⟩, hK, hL⟩ := hC
  have hA : ∀ q : Nat, s.heap.size ≤ q → (fun q : Nat => s.heap.size ≤ q) q := fun _ h => h
  have hbA : ¬ (fun q : Nat => s.heap.size ≤ q) b := Nat.not_le.mpr hbl
  have Z : tzC p s m #[Value.ref b] cd code 4 R_law D (tX0 c ++ tX1 c') := ⟨⟨hx, hb, hml, hown, fun w h => hts w (lw_all_tbl h)⟩, hK⟩
  obtain ⟨n, t, hW, hM⟩ := inv_wf hI
  refine lv_aload_n hx hb dL_law_650 rfl (lv_at hl 1 rfl) ?_
  refine lv_aload_n hx hb dL_law_651 rfl (lv_at hl 0 rfl) ?_
  refine lv_iload_n hx hb dL_law_652 rfl (lv_at hl 3 rfl) ?_
  refine lv_iconst (v := nI 1) hx hb dL_law_653 (by decide) ?_
  refine lv_iadd hx hb dL_law_654 ?_
  refine tz_sld hx hb hX hbl hbA Y (tz_ai hi 1 (by decide)) hL dL_law_655 ?_
  refine lv_aload_n hx hb dL_law_656 rfl (lv_at hl 0 rfl) ?_
  refine lv_iload_n hx hb dL_law_657 rfl (lv_at hl 3 rfl) ?_
  refine lv_iconst (v := nI 2) hx hb dL_law_658 (by decide) ?_
  refine lv_iadd hx hb dL_law_659 ?_
  refine tz_sld hx hb hX hbl hbA Y (tz_ai hi 2 (by decide)) hL dL_law_660 ?_
  refine tz_cL0 Z Y hA ⟨Nat.le_refl _, Nat.le_refl _⟩ (kX0_leap l D a c u (xs (4 * i + 1)) (xs (4 * i + 2)) hW) (cwV 2 Z.1.2.2.2.2 (lw_V q192 q193 q194 q18 q195) rfl rfl rfl (by decide +kernel) ⟨by decide, by decide⟩) rfl hl.1 rfl (Nat.le_of_ble_eq_true rfl) dL_law_661 (fun H locs Y => ?_)
  refine lv_aload_n hx hb dL_law_664 rfl (lv_at hl 2 rfl) ?_
  refine lv_aload_n hx hb dL_law_665 rfl (lv_at hl 0 rfl) ?_
  refine lv_iload_n hx hb dL_law_666 rfl (lv_at hl 3 rfl) ?_
  refine lv_iconst (v := nI 1) hx hb dL_law_667 (by decide) ?_
  refine lv_iadd hx hb dL_law_668 ?_
  refine tz_sld hx hb hX hbl hbA Y (tz_ai hi 1 (by decide)) hL dL_law_669 ?_
  refine lv_aload_n hx hb dL_law_670 rfl (lv_at hl 0 rfl) ?_
  refine lv_iload_n hx hb dL_law_671 rfl (lv_at hl 3 rfl) ?_
  refine lv_iconst (v := nI 2) hx hb dL_law_672 (by decide) ?_
  refine lv_iadd hx hb dL_law_673 ?_
  refine tz_sld hx hb hX hbl hbA Y (tz_ai hi 2 (by decide)) hL dL_law_674 ?_
  refine tz_cL1 Z Y hA ⟨Nat.le_refl _, Nat.le_refl _⟩ (kX1_leap l D a' c' v (xs (4 * i + 1)) (xs (4 * i + 2)) hM) (cwV 2 Z.1.2.2.2.2 (lw_V q361 q362 q363 q19 q364) rfl rfl rfl (by decide +kernel) ⟨by decide, by decide⟩) rfl hl.1 rfl (Nat.le_of_ble_eq_true rfl) dL_law_675 (fun H locs Y => ?_)
  refine lv_icmp_eq (tgt := 752) hx hb dL_law_678 (by decide) (fun _ => ?_) (fun c9 => absurd ((op_leap hI (xs (4 * i + 1)) (xs (4 * i + 2))).1) c9)
  exact ih _ _ _ _ _ ((op_leap hI (xs (4 * i + 1)) (xs (4 * i + 2))).2) Y hl
set_option maxHeartbeats 4000000 in
set_option maxRecDepth 100000 in
theorem lc_turn {p : Program} {l : Launch} {e : Env} {s : State} {m : MethodId} {below : List Frame} {meth : Method} {cd : Code} {b L : Nat} {xs : Nat → Int32} {D : va_G} {a a' : Nat → Nat} {c c' : Nat → ClassId} (hC : tzLw p s m meth cd b L xs D c c') {i : Nat} (hi : 4 * i + 4 ≤ L) {u v : tzS} (hI : tzInv u v) {H : Heap} {locs : List Loc} {ls : Array Slot} (Y : tzY D (fun q : Nat => s.heap.size ≤ q) s.heap (wX0 a c u ++ wX1 a' c' v) H locs) (hl : lv_has ls 4 [(0, .ref b), (1, .ref (a 16)), (2, .ref (a' 14)), (3, .int (nI (4 * i)))]) (ih : (∀ (H' : Heap) (locs' : List Loc) (ls' : Array Slot) (u' v' : tzS), tzInv u' v' → tzY D (fun q : Nat => s.heap.size ≤ q) s.heap (wX0 a c u' ++ wX1 a' c' v') H' locs' → lv_has ls' 4 [(0, .ref b), (1, .ref (a 16)), (2, .ref (a' 14)), (3, .int (nI (4 * i)))] → W p l e room_1 s m #[Value.ref b] below meth cd H' locs' 600000 7290000 (lw_Z below #[Value.ref b] s) (F0 m 752 ls' []))) : W p l e room_1 s m #[Value.ref b] below meth cd H locs 600000 7290000 (lw_Z below #[Value.ref b] s) (F0 m 683 ls []) := by
  obtain ⟨⟨hx, hb, hr, hml, hown, hts, hX, hbl, hlocks, hgv⟩, hK, hL⟩ := hC
  have hA : ∀ q : Nat, s.heap.size ≤ q → (fun q : Nat => s.heap.size ≤ q) q := fun _ h => h
  have hbA : ¬ (fun q : Nat => s.heap.size ≤ q) b := Nat.not_le.mpr hbl
  have Z : tzC p s m #[Value.ref b] cd code 4 R_law D (tX0 c ++ tX1 c') := ⟨⟨hx, hb, hml, hown, fun w h => hts w (lw_all_tbl h)⟩, hK⟩
  obtain ⟨n, t, hW, hM⟩ := inv_wf hI
  refine lv_aload_n hx hb dL_law_683 rfl (lv_at hl 1 rfl) ?_
  refine lv_aload_n hx hb dL_law_684 rfl (lv_at hl 0 rfl) ?_
  refine lv_iload_n hx hb dL_law_685 rfl (lv_at hl 3 rfl) ?_
  refine lv_iconst (v := nI 1) hx hb dL_law_686 (by decide) ?_
  refine lv_iadd hx hb dL_law_687 ?_
  refine tz_sld hx hb hX hbl hbA Y (tz_ai hi 1 (by decide)) hL dL_law_688 ?_
  refine tz_cL0 Z Y hA ⟨Nat.le_refl _, Nat.le_refl _⟩ (kX0_turn l D a c u (xs (4 * i + 1))) (cwV 1 Z.1.2.2.2.2 (lw_V q200 q201 q202 q18 q203) rfl rfl rfl (by decide +kernel) ⟨by decide, by decide⟩) rfl hl.1 rfl (Nat.le_of_ble_eq_true rfl) dL_law_689 (fun H locs Y => ?_)
  refine lv_aload_n hx hb dL_law_692 rfl (lv_at hl 2 rfl) ?_
  refine lv_aload_n hx hb dL_law_693 rfl (lv_at hl 0 rfl) ?_
  refine lv_iload_n hx hb dL_law_694 rfl (lv_at hl 3 rfl) ?_
  refine lv_iconst (v := nI 1) hx hb dL_law_695 (by decide) ?_
  refine lv_iadd hx hb dL_law_696 ?_
  refine tz_sld hx hb hX hbl hbA Y (tz_ai hi 1 (by decide)) hL dL_law_697 ?_
  refine tz_cL1 Z Y hA ⟨Nat.le_refl _, Nat.le_refl _⟩ (kX1_turn l D a' c' v (xs (4 * i + 1))) (cwV 1 Z.1.2.2.2.2 (lw_V q369 q370 q371 q19 q372) rfl rfl rfl (by decide +kernel) ⟨by decide, by decide⟩) rfl hl.1 rfl (Nat.le_of_ble_eq_true rfl) dL_law_698 (fun H locs Y => ?_)
  refine lv_icmp_eq (tgt := 752) hx hb dL_law_701 (by decide) (fun _ => ?_) (fun c9 => absurd ((op_turn hI (xs (4 * i + 1))).1) c9)
  exact ih _ _ _ _ _ ((op_turn hI (xs (4 * i + 1))).2) Y hl
set_option maxHeartbeats 4000000 in
set_option maxRecDepth 100000 in
theorem lc_copy {p : Program} {l : Launch} {e : Env} {s : State} {m : MethodId} {below : List Frame} {meth : Method} {cd : Code} {b L : Nat} {xs : Nat → Int32} {D : va_G} {a a' : Nat → Nat} {c c' : Nat → ClassId} (hC : tzLw p s m meth cd b L xs D c c') {i : Nat} (hi : 4 * i + 4 ≤ L) {u v : tzS} (hI : tzInv u v) {H : Heap} {locs : List Loc} {ls : Array Slot} (Y : tzY D (fun q : Nat => s.heap.size ≤ q) s.heap (wX0 a c u ++ wX1 a' c' v) H locs) (hl : lv_has ls 4 [(0, .ref b), (1, .ref (a 16)), (2, .ref (a' 14)), (3, .int (nI (4 * i)))]) (ih : (∀ (H' : Heap) (locs' : List Loc) (ls' : Array Slot) (u' v' : tzS), tzInv u' v' → tzY D (fun q : Nat => s.heap.size ≤ q) s.heap (wX0 a c u' ++ wX1 a' c' v') H' locs' → lv_has ls' 4 [(0, .ref b), (1, .ref (a 16)), (2, .ref (a' 14)), (3, .int (nI (4 * i)))] → W p l e room_1 s m #[Value.ref b] below meth cd H' locs' 600000 7290000 (lw_Z below #[Value.ref b] s) (F0 m 752 ls' []))) : W p l e room_1 s m #[Value.ref b] below meth cd H locs 600000 7290000 (lw_Z below #[Value.ref b] s) (F0 m 706 ls []) := by
  obtain ⟨⟨hx, hb, hr, hml, hown, hts, hX, hbl, hlocks, hgv⟩, hK, hL⟩ := hC
  have hA : ∀ q : Nat, s.heap.size ≤ q → (fun q : Nat => s.heap.size ≤ q) q := fun _ h => h
  have hbA : ¬ (fun q : Nat => s.heap.size ≤ q) b := Nat.not_le.mpr hbl
  have Z : tzC p s m #[Value.ref b] cd code 4 R_law D (tX0 c ++ tX1 c') := ⟨⟨hx, hb, hml, hown, fun w h => hts w (lw_all_tbl h)⟩, hK⟩
  obtain ⟨n, t, hW, hM⟩ := inv_wf hI
  refine lv_aload_n hx hb dL_law_706 rfl (lv_at hl 1 rfl) ?_
  refine lv_aload_n hx hb dL_law_707 rfl (lv_at hl 0 rfl) ?_
  refine lv_iload_n hx hb dL_law_708 rfl (lv_at hl 3 rfl) ?_
  refine lv_iconst (v := nI 1) hx hb dL_law_709 (by decide) ?_
  refine lv_iadd hx hb dL_law_710 ?_
  refine tz_sld hx hb hX hbl hbA Y (tz_ai hi 1 (by decide)) hL dL_law_711 ?_
  refine lv_aload_n hx hb dL_law_712 rfl (lv_at hl 0 rfl) ?_
  refine lv_iload_n hx hb dL_law_713 rfl (lv_at hl 3 rfl) ?_
  refine lv_iconst (v := nI 2) hx hb dL_law_714 (by decide) ?_
  refine lv_iadd hx hb dL_law_715 ?_
  refine tz_sld hx hb hX hbl hbA Y (tz_ai hi 2 (by decide)) hL dL_law_716 ?_
  refine tz_cL0 Z Y hA ⟨Nat.le_refl _, Nat.le_refl _⟩ (kX0_copy l D a c u (xs (4 * i + 1)) (xs (4 * i + 2))) (cwV 2 Z.1.2.2.2.2 (lw_V q204 q205 q206 q18 q207) rfl rfl rfl (by decide +kernel) ⟨by decide, by decide⟩) rfl hl.1 rfl (Nat.le_of_ble_eq_true rfl) dL_law_717 (fun H locs Y => ?_)
  refine lv_aload_n hx hb dL_law_720 rfl (lv_at hl 2 rfl) ?_
  refine lv_aload_n hx hb dL_law_721 rfl (lv_at hl 0 rfl) ?_
  refine lv_iload_n hx hb dL_law_722 rfl (lv_at hl 3 rfl) ?_
  refine lv_iconst (v := nI 1) hx hb dL_law_723 (by decide) ?_
  refine lv_iadd hx hb dL_law_724 ?_
  refine tz_sld hx hb hX hbl hbA Y (tz_ai hi 1 (by decide)) hL dL_law_725 ?_
  refine lv_aload_n hx hb dL_law_726 rfl (lv_at hl 0 rfl) ?_
  refine lv_iload_n hx hb dL_law_727 rfl (lv_at hl 3 rfl) ?_
  refine lv_iconst (v := nI 2) hx hb dL_law_728 (by decide) ?_
  refine lv_iadd hx hb dL_law_729 ?_
  refine tz_sld hx hb hX hbl hbA Y (tz_ai hi 2 (by decide)) hL dL_law_730 ?_
  refine tz_cL1 Z Y hA ⟨Nat.le_refl _, Nat.le_refl _⟩ (kX1_copy l D a' c' v (xs (4 * i + 1)) (xs (4 * i + 2))) (cwV 2 Z.1.2.2.2.2 (lw_V q373 q374 q375 q19 q376) rfl rfl rfl (by decide +kernel) ⟨by decide, by decide⟩) rfl hl.1 rfl (Nat.le_of_ble_eq_true rfl) dL_law_731 (fun H locs Y => ?_)
  refine lv_icmp_eq (tgt := 752) hx hb dL_law_734 (by decide) (fun _ => ?_) (fun c9 => absurd ((op_copy hI (xs (4 * i + 1)) (xs (4 * i + 2))).1) c9)
  exact ih _ _ _ _ _ ((op_copy hI (xs (4 * i + 1)) (xs (4 * i + 2))).2) Y hl
set_option maxHeartbeats 4000000 in
set_option maxRecDepth 100000 in
theorem lc_live {p : Program} {l : Launch} {e : Env} {s : State} {m : MethodId} {below : List Frame} {meth : Method} {cd : Code} {b L : Nat} {xs : Nat → Int32} {D : va_G} {a a' : Nat → Nat} {c c' : Nat → ClassId} (hC : tzLw p s m meth cd b L xs D c c') {i : Nat} (hi : 4 * i + 4 ≤ L) {u v : tzS} (hI : tzInv u v) {H : Heap} {locs : List Loc} {ls : Array Slot} (Y : tzY D (fun q : Nat => s.heap.size ≤ q) s.heap (wX0 a c u ++ wX1 a' c' v) H locs) (hl : lv_has ls 4 [(0, .ref b), (1, .ref (a 16)), (2, .ref (a' 14)), (3, .int (nI (4 * i)))]) (ih : (∀ (H' : Heap) (locs' : List Loc) (ls' : Array Slot) (u' v' : tzS), tzInv u' v' → tzY D (fun q : Nat => s.heap.size ≤ q) s.heap (wX0 a c u' ++ wX1 a' c' v') H' locs' → lv_has ls' 4 [(0, .ref b), (1, .ref (a 16)), (2, .ref (a' 14)), (3, .int (nI (4 * i)))] → W p l e room_1 s m #[Value.ref b] below meth cd H' locs' 600000 7290000 (lw_Z below #[Value.ref b] s) (F0 m 752 ls' []))) : W p l e room_1 s m #[Value.ref b] below meth cd H locs 600000 7290000 (lw_Z below #[Value.ref b] s) (F0 m 739 ls []) := by
  obtain ⟨⟨hx, hb, hr, hml, hown, hts, hX, hbl, hlocks, hgv⟩, hK, hL⟩ := hC
  have hA : ∀ q : Nat, s.heap.size ≤ q → (fun q : Nat => s.heap.size ≤ q) q := fun _ h => h
  have hbA : ¬ (fun q : Nat => s.heap.size ≤ q) b := Nat.not_le.mpr hbl
  have Z : tzC p s m #[Value.ref b] cd code 4 R_law D (tX0 c ++ tX1 c') := ⟨⟨hx, hb, hml, hown, fun w h => hts w (lw_all_tbl h)⟩, hK⟩
  obtain ⟨n, t, hW, hM⟩ := inv_wf hI
  refine lv_aload_n hx hb dL_law_739 rfl (lv_at hl 1 rfl) ?_
  refine tz_cL0 Z Y hA ⟨Nat.le_refl _, Nat.le_refl _⟩ (kX0_live l D a c u hW) (cwV 0 Z.1.2.2.2.2 (lw_V q208 q209 q210 q18 q211) rfl rfl rfl (by decide +kernel) ⟨by decide, by decide⟩) rfl hl.1 rfl (Nat.le_of_ble_eq_true rfl) dL_law_740 (fun H locs Y => ?_)
  refine lv_aload_n hx hb dL_law_743 rfl (lv_at hl 2 rfl) ?_
  refine tz_cL1 Z Y hA ⟨Nat.le_refl _, Nat.le_refl _⟩ (kX1_live l D a' c' v hM) (cwV 0 Z.1.2.2.2.2 (lw_V q377 q378 q379 q19 q380) rfl rfl rfl (by decide +kernel) ⟨by decide, by decide⟩) rfl hl.1 rfl (Nat.le_of_ble_eq_true rfl) dL_law_744 (fun H locs Y => ?_)
  refine lv_icmp_eq (tgt := 752) hx hb dL_law_747 (by decide) (fun _ => ?_) (fun c9 => absurd ((op_live hI).1) c9)
  exact ih _ _ _ _ _ ((op_live hI).2) Y hl
end
section
set_option maxRecDepth 100000
set_option maxHeartbeats 4000000 in
set_option maxRecDepth 100000 in
/-- the law's loop -/
theorem law_loop {p : Program} {l : Launch} {e : Env} {s : State} {m : MethodId} {below : List Frame} {meth : Method} {cd : Code} {b L : Nat} {xs : Nat → Int32} {D : va_G} {a a' : Nat → Nat} {c c' : Nat → ClassId} (hC : tzLw p s m meth cd b L xs D c c') {H : Heap} {locs : List Loc} {ls : Array Slot} {u v : tzS} (hI : tzInv u v) (Y : tzY D (fun q : Nat => s.heap.size ≤ q) s.heap (wX0 a c u ++ wX1 a' c' v) H locs) (hl : lv_has ls 4 [(0, .ref b), (1, .ref (a 16)), (2, .ref (a' 14)), (3, .int (nI (4 * 0)))]) : W p l e room_1 s m #[Value.ref b] below meth cd H locs 600000 7290000 (lw_Z below #[Value.ref b] s) (F0 m 18 ls []) := by
  have hC0 := hC
  obtain ⟨⟨hx, hb, hr, hml, hown, hts, hX, hbl, hlocks, hgv⟩, hK, hL⟩ := hC
  have hbA : ¬ (fun q : Nat => s.heap.size ≤ q) b := Nat.not_le.mpr hbl
  refine tz_loop (G := fun i H locs ls => ∃ u v : tzS, tzInv u v ∧ tzY D (fun q : Nat => s.heap.size ≤ q) s.heap (wX0 a c u ++ wX1 a' c' v) H locs ∧ lv_has ls 4 [(0, .ref b), (1, .ref (a 16)), (2, .ref (a' 14)), (3, .int (nI (4 * i)))]) (L / 4) ?_ ?_ ⟨u, v, hI, Y, hl⟩
  · rintro i H locs ls hi0 ⟨u, v, hI, Y, hl⟩ ih
    have hi : 4 * i + 4 ≤ L := by omega
    refine lv_iload_n hx hb dL_law_18 rfl (lv_at hl 3 rfl) ?_
    refine lv_aload_n hx hb dL_law_19 rfl (lv_at hl 0 rfl) ?_
    refine va_slen hx hb hX hbl hbA Y.2.2 dL_law_20 ?_
    refine lv_iconst (v := nI 4) hx hb dL_law_21 (by decide) ?_
    refine lv_isub hx hb dL_law_22 ?_
    refine lv_icmp_gt (tgt := 758) hx hb dL_law_23 (by decide) (fun c9 => absurd c9 (tz_hf hi hL)) (fun _ => ?_)
    refine lv_aload_n hx hb dL_law_26 rfl (lv_at hl 0 rfl) ?_
    refine lv_iload_n hx hb dL_law_27 rfl (lv_at hl 3 rfl) ?_
    refine tz_sld (i := 4 * i) hx hb hX hbl hbA Y (tzat_nI (by omega)) hL dL_law_28 ?_
    refine lv_bipush (v := 31) hx hb dL_law_29 (by decide) ?_
    refine lv_iand hx hb dL_law_31 ?_
    obtain ⟨j, hj, ej⟩ := pk_andE (xs (4 * i)) (m := 31) 5 (by decide +kernel)
    refine tz_top ej ?_
    have back : ∀ (H' : Heap) (locs' : List Loc) (ls' : Array Slot) (u' v' : tzS), tzInv u' v' → tzY D (fun q : Nat => s.heap.size ≤ q) s.heap (wX0 a c u' ++ wX1 a' c' v') H' locs' → lv_has ls' 4 [(0, .ref b), (1, .ref (a 16)), (2, .ref (a' 14)), (3, .int (nI (4 * i)))] → W p l e room_1 s m #[Value.ref b] below meth cd H' locs' 600000 7290000 (lw_Z below #[Value.ref b] s) (F0 m 752 ls' []) := by
      intro H locs ls u v hI Y hl
      refine lv_iinc (v := nI (4 * (i + 1))) (lv' := [(3, .int (nI (4 * (i + 1)))), (0, .ref b), (1, .ref (a 16)), (2, .ref (a' 14))]) hx hb dL_law_752 hl (k := 3) rfl (show nI (4 * i) + nI 4 = nI (4 * (i + 1)) by rw [nI_add]; rfl) (by decide) rfl (fun ls hl => ?_)
      refine lv_goto (tgt := 18) hx hb dL_law_755 (by decide) ?_
      exact ih _ _ _ ⟨u, v, hI, Y, lv_sub hl [1, 2, 3, 0] rfl⟩
    rcases (show j = 0 ∨ j = 1 ∨ j = 2 ∨ j = 3 ∨ j = 4 ∨ j = 5 ∨ j = 6 ∨ j = 7 ∨ j = 8 ∨ j = 9 ∨ j = 10 ∨ j = 11 ∨ j = 12 ∨ j = 13 ∨ j = 14 ∨ j = 15 ∨ j = 16 ∨ j = 17 ∨ j = 18 ∨ j = 19 ∨ j = 20 ∨ j = 21 ∨ 22 ≤ j by omega) with rfl | rfl | rfl | rfl | rfl | rfl | rfl | rfl | rfl | rfl | rfl | rfl | rfl | rfl | rfl | rfl | rfl | rfl | rfl | rfl | rfl | rfl | h22
    · refine lv_tableIn (off := 104) (tgt := 136) hx hb dL_law_32 (by decide +kernel) (by decide +kernel) (by decide +kernel) (by decide +kernel) ?_
      exact lc_parameter hC0 hi hI Y hl back
    · refine lv_tableIn (off := 127) (tgt := 159) hx hb dL_law_32 (by decide +kernel) (by decide +kernel) (by decide +kernel) (by decide +kernel) ?_
      exact lc_constant hC0 hi hI Y hl back
    · refine lv_tableIn (off := 150) (tgt := 182) hx hb dL_law_32 (by decide +kernel) (by decide +kernel) (by decide +kernel) (by decide +kernel) ?_
      exact lc_combine hC0 hi hI Y hl back
    · refine lv_tableIn (off := 193) (tgt := 225) hx hb dL_law_32 (by decide +kernel) (by decide +kernel) (by decide +kernel) (by decide +kernel) ?_
      exact lc_square hC0 hi hI Y hl back
    · refine lv_tableIn (off := 216) (tgt := 248) hx hb dL_law_32 (by decide +kernel) (by decide +kernel) (by decide +kernel) (by decide +kernel) ?_
      exact lc_term hC0 hi hI Y hl back
    · refine lv_tableIn (off := 249) (tgt := 281) hx hb dL_law_32 (by decide +kernel) (by decide +kernel) (by decide +kernel) (by decide +kernel) ?_
      exact lc_clear hC0 hi hI Y hl back
    · refine lv_tableIn (off := 262) (tgt := 294) hx hb dL_law_32 (by decide +kernel) (by decide +kernel) (by decide +kernel) (by decide +kernel) ?_
      exact lc_nodes hC0 hi hI Y hl back
    · refine lv_tableIn (off := 275) (tgt := 307) hx hb dL_law_32 (by decide +kernel) (by decide +kernel) (by decide +kernel) (by decide +kernel) ?_
      exact lc_terms hC0 hi hI Y hl back
    · refine lv_tableIn (off := 288) (tgt := 320) hx hb dL_law_32 (by decide +kernel) (by decide +kernel) (by decide +kernel) (by decide +kernel) ?_
      exact lc_place hC0 hi hI Y hl back
    · refine lv_tableIn (off := 331) (tgt := 363) hx hb dL_law_32 (by decide +kernel) (by decide +kernel) (by decide +kernel) (by decide +kernel) ?_
      exact lc_push hC0 hi hI Y hl back
    · refine lv_tableIn (off := 374) (tgt := 406) hx hb dL_law_32 (by decide +kernel) (by decide +kernel) (by decide +kernel) (by decide +kernel) ?_
      exact lc_shift hC0 hi hI Y hl back
    · refine lv_tableIn (off := 397) (tgt := 429) hx hb dL_law_32 (by decide +kernel) (by decide +kernel) (by decide +kernel) (by decide +kernel) ?_
      exact lc_position hC0 hi hI Y hl back
    · refine lv_tableIn (off := 430) (tgt := 462) hx hb dL_law_32 (by decide +kernel) (by decide +kernel) (by decide +kernel) (by decide +kernel) ?_
      exact lc_momentum hC0 hi hI Y hl back
    · refine lv_tableIn (off := 463) (tgt := 495) hx hb dL_law_32 (by decide +kernel) (by decide +kernel) (by decide +kernel) (by decide +kernel) ?_
      exact lc_valueOf hC0 hi hI Y hl back
    · refine lv_tableIn (off := 496) (tgt := 528) hx hb dL_law_32 (by decide +kernel) (by decide +kernel) (by decide +kernel) (by decide +kernel) ?_
      exact lc_target hC0 hi hI Y hl back
    · refine lv_tableIn (off := 519) (tgt := 551) hx hb dL_law_32 (by decide +kernel) (by decide +kernel) (by decide +kernel) (by decide +kernel) ?_
      exact lc_slope hC0 hi hI Y hl back
    · refine lv_tableIn (off := 552) (tgt := 584) hx hb dL_law_32 (by decide +kernel) (by decide +kernel) (by decide +kernel) (by decide +kernel) ?_
      exact lc_drift hC0 hi hI Y hl back
    · refine lv_tableIn (off := 575) (tgt := 607) hx hb dL_law_32 (by decide +kernel) (by decide +kernel) (by decide +kernel) (by decide +kernel) ?_
      exact lc_targetAt hC0 hi hI Y hl back
    · refine lv_tableIn (off := 618) (tgt := 650) hx hb dL_law_32 (by decide +kernel) (by decide +kernel) (by decide +kernel) (by decide +kernel) ?_
      exact lc_leap hC0 hi hI Y hl back
    · refine lv_tableIn (off := 651) (tgt := 683) hx hb dL_law_32 (by decide +kernel) (by decide +kernel) (by decide +kernel) (by decide +kernel) ?_
      exact lc_turn hC0 hi hI Y hl back
    · refine lv_tableIn (off := 674) (tgt := 706) hx hb dL_law_32 (by decide +kernel) (by decide +kernel) (by decide +kernel) (by decide +kernel) ?_
      exact lc_copy hC0 hi hI Y hl back
    · refine lv_tableIn (off := 707) (tgt := 739) hx hb dL_law_32 (by decide +kernel) (by decide +kernel) (by decide +kernel) (by decide +kernel) ?_
      exact lc_live hC0 hi hI Y hl back
    · refine lv_tableOut (tgt := 752) hx hb dL_law_32 (Or.inr (by rw [nI_toInt (by omega)]; omega)) (by decide) ?_
      exact back _ _ _ u v hI Y hl
  · rintro H locs ls ⟨u, v, hI, Y, hl⟩
    refine lv_iload_n hx hb dL_law_18 rfl (lv_at hl 3 rfl) ?_
    refine lv_aload_n hx hb dL_law_19 rfl (lv_at hl 0 rfl) ?_
    refine va_slen hx hb hX hbl hbA Y.2.2 dL_law_20 ?_
    refine lv_iconst (v := nI 4) hx hb dL_law_21 (by decide) ?_
    refine lv_isub hx hb dL_law_22 ?_
    refine lv_icmp_gt (tgt := 758) hx hb dL_law_23 (by decide) (fun _ => ?_) (fun c9 => absurd (tz_ht (by omega) hL (by omega)) c9)
    refine lv_iconst (v := 1) hx hb dL_law_758 (by decide) ?_
    refine va_forget (fun q hq => Y.2.2.2.2 q hq) ?_
    exact lw_ret hx hb hr hlocks dL_law_759
set_option maxHeartbeats 4000000 in
set_option maxRecDepth 100000 in
/-- THE LAW, from its entry -/
theorem whole_start {p : Program} {e : Env} {s : State} {m : MethodId} {below : List Frame} {meth : Method} {c : Code} (l : Launch) {b L : Nat} {xs : Nat → Int32} (hL : L ≤ 256) (C0 : lw_At p s m meth c b L xs) : W p l e room_1 s m #[Value.ref b] below meth c s.heap [] 0 0 (lw_Z below #[Value.ref b] s) (entryFrame m ([Value.ref b] : List Value).toArray 4) := by
  obtain ⟨hx, hb, hr, hml, hown, hts0, hX, hbl, hlocks, hgv⟩ := id C0
  have hts : ∀ w ∈ lw_all, w.before #[Value.ref b] s = true := fun w h => hts0 w (lw_all_tbl h)
  have hA : ∀ q : Nat, s.heap.size ≤ q → (fun q : Nat => s.heap.size ≤ q) q := fun _ h => h
  obtain ⟨c0, iS0, hKn0⟩ := u_known (C := RX0) (T := TX0) (N := 16) (n := 16) hts0 (fun w h => lw_all_tbl (in_X0 w h)) (hts _ q21)
  obtain ⟨c1, iS1, hKn1⟩ := u_known (C := RX1) (T := TX1) (N := 14) (n := 14) hts0 (fun w h => lw_all_tbl (in_X1 w h)) (hts _ q213)
  obtain ⟨D, hKc⟩ : ∃ D : va_G, ∀ (k : Nat) (q : vw_C), vwCl[k]? = some q → u_Kn s q.1 q.2.1 q.2.2 (D.1 k) (D.2 k) := by
    refine ⟨(fun k => if k = 0 then c0 else c1, fun k => if k = 0 then iS0 else iS1), ?_⟩
    intro k q hq
    match k, hq with
    | 0, hq => cases hq; exact hKn0
    | 1, hq => cases hq; exact hKn1
    | k + 2, hq => simp [vwCl] at hq
  have hS : va_S (fun q : Nat => s.heap.size ≤ q) s.heap s.heap [] := va_S.rf
  have hK : va_K D vwCl [] s := ⟨hKc, fun k q h => by simp at h⟩
  have hP : va_P D vwCl [] s.heap := fun k q h => by simp at h
  have hD : va_D (fun q : Nat => s.heap.size ≤ q) [] := ⟨fun i j p q h => by simp at h, fun k q h => by simp at h⟩
  have hl := lv_entry ([.ref b]) (n := 4) (Nat.le_of_ble_eq_true rfl)
  rw [lg_entry_eq]
  generalize (lg_sl ([.ref b]) ++ List.replicate (4 - (lg_sl ([.ref b])).length) Slot.unset).toArray = ls at hl ⊢
  have hl : lv_has ls 4 [(0, .ref b)] := hl
  refine va_new (ci := 0) (fs := tzn0) (C := RX0) (T := TX0) (N := 16) hx hb hts in_X0 tyX0 tyX0_ok hown (hts _ q20) (hts _ q21) (hts _ q18) hK hP hD hS hA rfl (fun j hj => by rcases (show j = 0 ∨ j = 1 ∨ j = 2 ∨ j = 3 ∨ j = 4 ∨ j = 5 ∨ j = 6 ∨ j = 7 ∨ j = 8 ∨ j = 9 ∨ j = 10 ∨ j = 11 ∨ j = 12 ∨ j = 13 ∨ j = 14 ∨ j = 15 by omega) with rfl | rfl | rfl | rfl | rfl | rfl | rfl | rfl | rfl | rfl | rfl | rfl | rfl | rfl | rfl | rfl <;> rfl) (Nat.le_of_ble_eq_true rfl) (Nat.le_of_ble_eq_true rfl) dL_law_0 (fun h0 H hP hD hS => ?_)
  have hP : va_P D vwCl [(h0, .inr (0, tzn0))] H := hP
  have hD : va_D (fun q : Nat => s.heap.size ≤ q) [(h0, .inr (0, tzn0))] := hD
  refine W.widen (k := 1) (n := 16) (Nat.le_of_ble_eq_true rfl) (Nat.le_of_ble_eq_true rfl) ?_
  refine lv_dup hx hb dL_law_3 rfl ?_
  have hFc := va_free (wc := [(h0, .inr (0, tzn0))]) hD hS hA [0] rfl
  refine va_callv (va_runI (As := []) (rest := [.ref h0]) ⟨hx, hb, hml, hown, hts⟩ (kX0_init l D h0 H.size) (cwI 0 hts (lw_meth q24) rfl rfl rfl (hts _ q18) (hts _ q22) (hts _ q23) rfl (by decide +kernel) ⟨by decide, by decide⟩) ⟨tz_blind, fun U hU hW => ⟨rfl, by rw [hU], by rw [hU]; exact hP, va_K.moved hW.alike hK, hD.weaken (fun _ _ _ _ => trivial)⟩⟩ rfl rfl hl.1 rfl (lv_room (Nat.le_of_ble_eq_true rfl)) dL_law_4 ⟨Nat.le_of_ble_eq_true rfl, Nat.le_of_ble_eq_true rfl⟩) hS (fun q _ h => hFc q h) hFc (fun u t H1 locs ht hvm hw hB hz1 hk1 hS => ?_)
  obtain ⟨a, ka⟩ := u
  obtain ⟨ea, hP1, hK1, hD1⟩ := hB
  have ea : a 16 = h0 := ea
  rw [ht] at hP1
  have hK1 : va_K D vwCl (tX0 ka) s := va_K.moved hvm.symm hK1
  obtain ⟨hP3, hD3⟩ := va_join (wr := []) (w1 := wX0 a ka tz0) hP hD [0] [] rfl rfl (by decide) (by decide) hk1 hFc hP1 hD1
  have hS3 := hS
  subst ea
  have hP : va_P D vwCl (wX0 a ka tz0) H1 := hP3
  have hD : va_D (fun q : Nat => s.heap.size ≤ q) (wX0 a ka tz0) := hD3
  have hS := hS3
  refine W.widen (k := 13) (n := 228) (Nat.le_of_ble_eq_true rfl) (Nat.le_of_ble_eq_true rfl) ?_
  refine lv_astore_n (lv' := [(1, .ref (a 16)), (0, .ref b)]) hx hb dL_law_7 rfl hl (by decide) rfl (fun ls hl => ?_)
  refine va_new (ci := 1) (fs := tzn1) (C := RX1) (T := TX1) (N := 14) hx hb hts in_X1 tyX1 tyX1_ok hown (hts _ q212) (hts _ q213) (hts _ q19) hK1 hP hD hS hA rfl (fun j hj => by rcases (show j = 0 ∨ j = 1 ∨ j = 2 ∨ j = 3 ∨ j = 4 ∨ j = 5 ∨ j = 6 ∨ j = 7 ∨ j = 8 ∨ j = 9 ∨ j = 10 ∨ j = 11 ∨ j = 12 ∨ j = 13 by omega) with rfl | rfl | rfl | rfl | rfl | rfl | rfl | rfl | rfl | rfl | rfl | rfl | rfl | rfl <;> rfl) (Nat.le_of_ble_eq_true rfl) (Nat.le_of_ble_eq_true rfl) dL_law_8 (fun h1 H hP hD hS => ?_)
  refine W.widen (k := 14) (n := 242) (Nat.le_of_ble_eq_true rfl) (Nat.le_of_ble_eq_true rfl) ?_
  refine lv_dup hx hb dL_law_11 rfl ?_
  have hPc := hP.sub (ws' := [(h1, .inr (1, tzn1))]) [13] rfl
  have hDc := hD.sub (ws' := [(h1, .inr (1, tzn1))]) [13] (by decide) rfl
  have hFc := va_free (wc := [(h1, .inr (1, tzn1))]) hD hS hA [13] rfl
  refine va_callv (va_runI (As := []) (rest := [.ref h1]) ⟨hx, hb, hml, hown, hts⟩ (kX1_init l D h1 H.size) (cwI 0 hts (lw_meth q216) rfl rfl rfl (hts _ q19) (hts _ q214) (hts _ q215) rfl (by decide +kernel) ⟨by decide, by decide⟩) ⟨tz_blind, fun U hU hW => ⟨rfl, by rw [hU], by rw [hU]; exact hPc, va_K.moved hW.alike hK, hDc.weaken (fun _ _ _ _ => trivial)⟩⟩ rfl rfl hl.1 rfl (lv_room (Nat.le_of_ble_eq_true rfl)) dL_law_12 ⟨Nat.le_of_ble_eq_true rfl, Nat.le_of_ble_eq_true rfl⟩) hS (fun q _ h => hFc q h) hFc (fun u t H2 locs ht hvm hw hB hz1 hk1 hS => ?_)
  obtain ⟨a', ka'⟩ := u
  obtain ⟨ea, hP1, hK2, hD1⟩ := hB
  have ea : a' 14 = h1 := ea
  rw [ht] at hP1
  have hK2 : va_K D vwCl (tX1 ka') s := va_K.moved hvm.symm hK2
  obtain ⟨hP3, hD3⟩ := va_join (wr := wX0 a ka tz0) (w1 := wX1 a' ka' tz0) hP hD [13] [0, 1, 2, 3, 4, 5, 6, 7, 8, 9, 10, 11, 12] rfl rfl (by decide) (by decide) hk1 hFc hP1 hD1
  have hS3 := hS
  subst ea
  have hP := hP3
  have hD := hD3
  have hS := hS3
  refine W.widen (k := 600000) (n := 7290000) (Nat.le_of_ble_eq_true rfl) (Nat.le_of_ble_eq_true rfl) ?_
  refine lv_astore_n (lv' := [(2, .ref (a' 14)), (1, .ref (a 16)), (0, .ref b)]) hx hb dL_law_15 rfl hl (by decide) rfl (fun ls hl => ?_)
  refine lv_iconst (v := nI (4 * 0)) hx hb dL_law_16 (by decide) ?_
  refine lv_istore_n (lv' := [(3, .int (nI (4 * 0))), (2, .ref (a' 14)), (1, .ref (a 16)), (0, .ref b)]) hx hb dL_law_17 rfl hl (by decide) rfl (fun ls hl => ?_)
  exact law_loop ⟨C0, hK1.app hK2, hL⟩ inv_0 ⟨hP, hD, hS⟩ (lv_sub hl [3, 2, 1, 0] rfl)
end
section
set_option maxRecDepth 100000
set_option maxHeartbeats 4000000 in
theorem lw_walk (l : Launch) (b : Addr) (xs : List Int32) : MetFree l x (headSpec (Jvm.Cond.code x code maxLocals ret :: tables_1) room_1) (lw_P b xs) (fun _ _ _ _ _ => True) lw_Q := by
  refine MetFree.of_bodyS (code := code) (maxLocals := maxLocals) (ret := ret) (by decide) ?_ ?_
  · intro args s m h hn
    obtain ⟨meth, c, h1, h2, h3, h4, h5, h6, -, -⟩ := Cond.code_spec hn (atoms_spec (ws := Jvm.Cond.code x code maxLocals ret :: tables_1) h _ List.mem_cons_self)
    exact ⟨meth, c, h1, h2, h3, h4, h5, h6⟩
  · intro p e s m args below meth c s₁ B hml0 hP _
    obtain ⟨rfl, hx, hbd, hgv⟩ := hP
    obtain ⟨scr, harrAt, hlist, hof, hsmall⟩ := hx
    obtain ⟨hcb, hkn, -, -⟩ := State.arrayAt?_spec harrAt
    have hown : s.vm.findClass R_law = some m.cls := findClass_of_methodNamed B.named
    have hts0 : ∀ c ∈ (Jvm.Cond.code x code maxLocals ret :: tables_1), c.before #[Value.ref b] s = true := atoms_spec (ws := Jvm.Cond.code x code maxLocals ret :: tables_1) B.pre
    have hts : ∀ w ∈ lw_tbl, w.before #[Value.ref b] s = true := k2_hts_sels lw_privs (fun w hw => hts0 w (List.mem_cons_of_mem _ hw)) lw_privs_ok
    have hml : c.maxLocals = 4 := B.maxLocals_eq (hts0 _ List.mem_cons_self)
    have X₀ : Stand p l e room_1 s m #[Value.ref b] below meth c s₁ [] 0 0 := Stand.of_body B
    have hh0 : s₁.heap = s.heap := by rw [B.state]; rfl
    have hsz : scr.slots.size = xs.length := by rw [← Array.length_toList, hlist, List.length_map]
    have hval : ∀ j : Nat, j < xs.length → scr.slots[j]? = some (.int (xs.getD j 0)) := fun j hj => by
      rw [← Array.getElem?_toList, hlist]
      simp [hj]
    have hbl : b < s.heap.size := (Array.getElem?_eq_some_iff.mp hcb).1
    have hX : va_X b xs.length (fun j => xs.getD j 0) s s.heap := ⟨scr, hcb, hof, hkn, hsz, hval⟩
    have K : W p l e room_1 s m #[Value.ref b] below meth c s₁.heap [] 0 0 (lw_Z below #[Value.ref b] s) (entryFrame m ([Value.ref b] : List Value).toArray 4) := by
      rw [hh0]
      exact whole_start l hbd ⟨B.exec, B.bytes, B.returns, hml, hown, hts, hX, hbl, B.notSynchronized, hgv⟩
    obtain ⟨t, a1, o, b1, b2, b3⟩ := K s₁ rfl X₀
    exact ⟨t, o, a1, b1, b2, b3⟩
theorem lw_pre_spec {args : Array Value} {s : State} (h : (Jvm.Cond.and given_1 narrow_1).before args s = true) (hr : rest_1_c.before args s = true) : ∃ (b : Addr) (xs : List Int32), lw_P b xs args s := by
  have hs := flat_of_before _ h
  have hq := flat_of_before _ hr
  have hc : (Cond.count 1).before args s = true := hs _ (by decide +kernel)
  have harr : (Cond.arrayOf (.arg 0) .int).before args s = true := hs _ (by decide +kernel)
  have hle : (Cond.le (.length (.arg 0)) (.int 256)).before args s = true := hs _ (by decide +kernel)
  have hlen : (Cond.isInt (.length (.arg 0))).before args s = true := hq _ (by decide +kernel)
  have hall : (Cond.all (.arg 0) (.isInt (.elem (.arg 0) (.index 0)))).before args s = true := hq _ (by decide +kernel)
  obtain ⟨b, xs, hb, hx⟩ := State.ints_of_pre rfl harr hlen hall
  have hsm : xs.length < 2 ^ 31 := hx.choose_spec.2.2.2
  have hev : (Term.length (.arg 0)).eval args s none [] s = some (.int xs.length.toInt32) := hx.length_eval hb
  have hv := Cond.le_ints hev (show (Term.int 256).eval args s none [] s = some (.int 256) from rfl)
  have hd : xs.length.toInt32 ≤ 256 := by
    simpa [Cond.before, Cond.holds, hv] using hle
  have hN : xs.length ≤ 256 := (Int32.ofNat_le_ofNat hsm (by decide)).mp (show Int32.ofNat xs.length ≤ Int32.ofNat 256 from hd)
  exact ⟨b, xs, Cond.one_arg hc (show args[0]? = some (.ref b) from hb), hx, hN, h⟩
theorem lw_comes (l : Launch) : Comes l x (Jvm.Cond.code x code maxLocals ret :: tables_1) room_1 (fun tb e args s => Calls_1 tb e args s ∧ rest_1 tb e args s ∧ Pre_1 tb e args s)
    (fun _ _ args s o t => lw_Q args s o t) := by
  intro p e ha hc hk s m args below hf hfit hheap happ hpre
  obtain ⟨b, xs, hP⟩ := lw_pre_spec hpre.2.2 hpre.2.1
  obtain ⟨k, o, h1, h2, h3, hQ⟩ := lw_walk l b xs p e ha hc hk s m args below hf ((Spec.applies_iff_loose hf).mp happ).1 hP trivial
  exact ⟨k, o, h1, h2, h3, hQ⟩
theorem lw_frame {s t : State} {o : Outcome} {args : Array Value} (h : Framed s o t [] 600000 7290000) :
    Framed s o t (fieldLocs frame_1_writes args s ++ arrayLocs frame_1_arrays args s ++ staticLocs frame_1_statics s) 600000 7290000 := h
theorem lw_limb (L : Cond) (hL : ∀ (args : Array Value) (s t : State), L.after args s (.returned (some (.int 1))) t = true) :
    ArmFor flags0 classFile x code maxLocals ret World_1 tables_1 room_1 Calls_1 rest_1 Pre_1
      (fun tb e a s o t => postC L tb e a s o t ∧ Framed s o t (fieldLocs frame_1_writes a s ++ arrayLocs frame_1_arrays a s ++ staticLocs frame_1_statics s) 600000 7290000) := by
  intro l _ _ _ p e ha hc hk s m args below hf hfit hheap happ hpre
  obtain ⟨k, o, h1, h2, h3, rfl, hF⟩ := lw_comes l p e ha hc hk s m args below hf hfit hheap happ hpre
  exact ⟨k, _, h1, h2, h3, hL args s _, lw_frame hF⟩
theorem i_vc : Claimed_1_1 ∧ Claimed_1_2 := ⟨lw_limb limb_1_1 (fun args s t => by simp [limb_1_1, Cond.after, Cond.holds, Cond.value]), lw_limb limb_1_2 (fun args s t => Cond.after_iff.mpr (by
  first | (rw [show limb_1_2 = Cond.eq .result (.int 1) from rfl, Cond.eq_ints (x := 1) (y := 1) rfl rfl]; simp; done) | (simp [limb_1_2, Cond.value, Term.eval]; done)))⟩
end
