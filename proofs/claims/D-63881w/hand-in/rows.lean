section
/-- a private method of a class that the tables say can be made, by its rows of tables_1 -/
def lw_okq (q : MethodName × Nat) : Prop := (q.1.cls ≠ "java/lang/invoke/MethodHandle" ∧ q.1.cls ≠ "java/lang/invoke/VarHandle") ∧ Cond.instantiable q.1.cls q.2 ∈ tables_1 ∧ Cond.privateMethod q.1 ∈ tables_1 ∧ Cond.instanceMethod q.1 ∈ tables_1
set_option maxRecDepth 100000
theorem lw_t1 {w : Cond} (h : w ∈ tables_1_1) : w ∈ tables_1 := List.mem_append_left _ h
theorem lw_t2 {w : Cond} (h : w ∈ tables_1_2) : w ∈ tables_1 := List.mem_append_right _ h
theorem lw_p0 : lw_okq (⟨"ReteEngine", "update", "(IIZ)V"⟩, 13) := ⟨⟨by decide +kernel, by decide +kernel⟩, lw_t1 (List.mem_of_getElem? (i := 4) rfl), lw_t1 (List.mem_of_getElem? (i := 62) rfl), lw_t1 (List.mem_of_getElem? (i := 63) rfl)⟩
theorem lw_p1 : lw_okq (⟨"ReteEngine", "isIn", "(III)Z"⟩, 13) := ⟨⟨by decide +kernel, by decide +kernel⟩, lw_t1 (List.mem_of_getElem? (i := 4) rfl), lw_t1 (List.mem_of_getElem? (i := 69) rfl), lw_t1 (List.mem_of_getElem? (i := 70) rfl)⟩
theorem lw_p2 : lw_okq (⟨"ReteEngine", "extend", "(IIIIZ)V"⟩, 13) := ⟨⟨by decide +kernel, by decide +kernel⟩, lw_t1 (List.mem_of_getElem? (i := 4) rfl), lw_t1 (List.mem_of_getElem? (i := 76) rfl), lw_t1 (List.mem_of_getElem? (i := 77) rfl)⟩
theorem lw_p3 : lw_okq (⟨"ReteEngine", "wasIn", "(III)Z"⟩, 13) := ⟨⟨by decide +kernel, by decide +kernel⟩, lw_t1 (List.mem_of_getElem? (i := 4) rfl), lw_t1 (List.mem_of_getElem? (i := 80) rfl), lw_t1 (List.mem_of_getElem? (i := 81) rfl)⟩
theorem lw_p4 : lw_okq (⟨"ReteEngine", "bindAlong", "(III)V"⟩, 13) := ⟨⟨by decide +kernel, by decide +kernel⟩, lw_t1 (List.mem_of_getElem? (i := 4) rfl), lw_t1 (List.mem_of_getElem? (i := 84) rfl), lw_t1 (List.mem_of_getElem? (i := 85) rfl)⟩
theorem lw_p5 : lw_okq (⟨"ReteEngine", "fits", "(IIZ)Z"⟩, 13) := ⟨⟨by decide +kernel, by decide +kernel⟩, lw_t1 (List.mem_of_getElem? (i := 4) rfl), lw_t1 (List.mem_of_getElem? (i := 88) rfl), lw_t1 (List.mem_of_getElem? (i := 89) rfl)⟩
theorem lw_p6 : lw_okq (⟨"ReteEngine", "meets", "(II)Z"⟩, 13) := ⟨⟨by decide +kernel, by decide +kernel⟩, lw_t1 (List.mem_of_getElem? (i := 4) rfl), lw_t1 (List.mem_of_getElem? (i := 92) rfl), lw_t1 (List.mem_of_getElem? (i := 93) rfl)⟩
theorem lw_p7 : lw_okq (⟨"ReteEngine", "extendNegated", "(IIIZIZ)V"⟩, 13) := ⟨⟨by decide +kernel, by decide +kernel⟩, lw_t1 (List.mem_of_getElem? (i := 4) rfl), lw_t1 (List.mem_of_getElem? (i := 96) rfl), lw_t1 (List.mem_of_getElem? (i := 97) rfl)⟩
theorem lw_p8 : lw_okq (⟨"ReteEngine", "anyFits", "(I)Z"⟩, 13) := ⟨⟨by decide +kernel, by decide +kernel⟩, lw_t1 (List.mem_of_getElem? (i := 4) rfl), lw_t1 (List.mem_of_getElem? (i := 100) rfl), lw_t1 (List.mem_of_getElem? (i := 101) rfl)⟩
theorem lw_p9 : lw_okq (⟨"ReteEngine", "has", "(I)Z"⟩, 13) := ⟨⟨by decide +kernel, by decide +kernel⟩, lw_t1 (List.mem_of_getElem? (i := 4) rfl), lw_t1 (List.mem_of_getElem? (i := 104) rfl), lw_t1 (List.mem_of_getElem? (i := 105) rfl)⟩
theorem lw_p10 : lw_okq (⟨"ReteEngine", "put", "(III)V"⟩, 13) := ⟨⟨by decide +kernel, by decide +kernel⟩, lw_t1 (List.mem_of_getElem? (i := 4) rfl), lw_t1 (List.mem_of_getElem? (i := 108) rfl), lw_t1 (List.mem_of_getElem? (i := 109) rfl)⟩
theorem lw_p11 : lw_okq (⟨"ReteEngine", "countAt", "(II)I"⟩, 13) := ⟨⟨by decide +kernel, by decide +kernel⟩, lw_t1 (List.mem_of_getElem? (i := 4) rfl), lw_t1 (List.mem_of_getElem? (i := 135) rfl), lw_t1 (List.mem_of_getElem? (i := 136) rfl)⟩
theorem lw_p12 : lw_okq (⟨"ReteEngine", "looksRight", "(II)Z"⟩, 13) := ⟨⟨by decide +kernel, by decide +kernel⟩, lw_t1 (List.mem_of_getElem? (i := 4) rfl), lw_t1 (List.mem_of_getElem? (i := 159) rfl), lw_t1 (List.mem_of_getElem? (i := 160) rfl)⟩
theorem lw_p13 : lw_okq (⟨"ReteEngineModel", "rule", "(I)Z"⟩, 7) := ⟨⟨by decide +kernel, by decide +kernel⟩, lw_t1 (List.mem_of_getElem? (i := 176) rfl), lw_t1 (List.mem_of_getElem? (i := 209) rfl), lw_t1 (List.mem_of_getElem? (i := 210) rfl)⟩
theorem lw_p14 : lw_okq (⟨"ReteEngineModel", "fact", "(III)Z"⟩, 7) := ⟨⟨by decide +kernel, by decide +kernel⟩, lw_t1 (List.mem_of_getElem? (i := 176) rfl), lw_t1 (List.mem_of_getElem? (i := 221) rfl), lw_t1 (List.mem_of_getElem? (i := 222) rfl)⟩
theorem lw_p15 : lw_okq (⟨"ReteEngineModel", "count", "(II)I"⟩, 7) := ⟨⟨by decide +kernel, by decide +kernel⟩, lw_t1 (List.mem_of_getElem? (i := 176) rfl), lw_t1 (List.mem_of_getElem? (i := 237) rfl), lw_t1 (List.mem_of_getElem? (i := 238) rfl)⟩
def lw_privs_1 : List (MethodName × Nat) := [(⟨"ReteEngine", "update", "(IIZ)V"⟩, 13), (⟨"ReteEngine", "isIn", "(III)Z"⟩, 13), (⟨"ReteEngine", "extend", "(IIIIZ)V"⟩, 13), (⟨"ReteEngine", "wasIn", "(III)Z"⟩, 13), (⟨"ReteEngine", "bindAlong", "(III)V"⟩, 13), (⟨"ReteEngine", "fits", "(IIZ)Z"⟩, 13), (⟨"ReteEngine", "meets", "(II)Z"⟩, 13), (⟨"ReteEngine", "extendNegated", "(IIIZIZ)V"⟩, 13), (⟨"ReteEngine", "anyFits", "(I)Z"⟩, 13), (⟨"ReteEngine", "has", "(I)Z"⟩, 13), (⟨"ReteEngine", "put", "(III)V"⟩, 13), (⟨"ReteEngine", "countAt", "(II)I"⟩, 13), (⟨"ReteEngine", "looksRight", "(II)Z"⟩, 13), (⟨"ReteEngineModel", "rule", "(I)Z"⟩, 7), (⟨"ReteEngineModel", "fact", "(III)Z"⟩, 7), (⟨"ReteEngineModel", "count", "(II)I"⟩, 7)]
theorem lw_r1 : ∀ q ∈ lw_privs_1, lw_okq q := List.forall_mem_cons.mpr ⟨lw_p0, List.forall_mem_cons.mpr ⟨lw_p1, List.forall_mem_cons.mpr ⟨lw_p2, List.forall_mem_cons.mpr ⟨lw_p3, List.forall_mem_cons.mpr ⟨lw_p4, List.forall_mem_cons.mpr ⟨lw_p5, List.forall_mem_cons.mpr ⟨lw_p6, List.forall_mem_cons.mpr ⟨lw_p7, List.forall_mem_cons.mpr ⟨lw_p8, List.forall_mem_cons.mpr ⟨lw_p9, List.forall_mem_cons.mpr ⟨lw_p10, List.forall_mem_cons.mpr ⟨lw_p11, List.forall_mem_cons.mpr ⟨lw_p12, List.forall_mem_cons.mpr ⟨lw_p13, List.forall_mem_cons.mpr ⟨lw_p14, List.forall_mem_cons.mpr ⟨lw_p15, fun _ h => absurd h List.not_mem_nil⟩⟩⟩⟩⟩⟩⟩⟩⟩⟩⟩⟩⟩⟩⟩⟩
theorem lw_p16 : lw_okq (⟨"ReteEngineModel", "isMatch", "(III)Z"⟩, 7) := ⟨⟨by decide +kernel, by decide +kernel⟩, lw_t1 (List.mem_of_getElem? (i := 176) rfl), lw_t2 (List.mem_of_getElem? (i := 1) rfl), lw_t2 (List.mem_of_getElem? (i := 2) rfl)⟩
theorem lw_p17 : lw_okq (⟨"ReteEngineModel", "none", "(I)Z"⟩, 7) := ⟨⟨by decide +kernel, by decide +kernel⟩, lw_t1 (List.mem_of_getElem? (i := 176) rfl), lw_t2 (List.mem_of_getElem? (i := 5) rfl), lw_t2 (List.mem_of_getElem? (i := 6) rfl)⟩
theorem lw_p18 : lw_okq (⟨"ReteEngineModel", "takes", "(II)Z"⟩, 7) := ⟨⟨by decide +kernel, by decide +kernel⟩, lw_t1 (List.mem_of_getElem? (i := 176) rfl), lw_t2 (List.mem_of_getElem? (i := 9) rfl), lw_t2 (List.mem_of_getElem? (i := 10) rfl)⟩
theorem lw_p19 : lw_okq (⟨"ReteEngineModel", "fits", "(II)Z"⟩, 7) := ⟨⟨by decide +kernel, by decide +kernel⟩, lw_t1 (List.mem_of_getElem? (i := 176) rfl), lw_t2 (List.mem_of_getElem? (i := 13) rfl), lw_t2 (List.mem_of_getElem? (i := 14) rfl)⟩
def lw_privs_2 : List (MethodName × Nat) := [(⟨"ReteEngineModel", "isMatch", "(III)Z"⟩, 7), (⟨"ReteEngineModel", "none", "(I)Z"⟩, 7), (⟨"ReteEngineModel", "takes", "(II)Z"⟩, 7), (⟨"ReteEngineModel", "fits", "(II)Z"⟩, 7)]
theorem lw_r2 : ∀ q ∈ lw_privs_2, lw_okq q := List.forall_mem_cons.mpr ⟨lw_p16, List.forall_mem_cons.mpr ⟨lw_p17, List.forall_mem_cons.mpr ⟨lw_p18, List.forall_mem_cons.mpr ⟨lw_p19, fun _ h => absurd h List.not_mem_nil⟩⟩⟩⟩
def lw_privs : List (MethodName × Nat) := lw_privs_1 ++ (lw_privs_2)
def lw_tbl : List Cond := k2_sels lw_privs ++ tables_1
theorem lw_privs_ok : ∀ q ∈ lw_privs, lw_okq q := by
  show ∀ q ∈ lw_privs_1 ++ (lw_privs_2), lw_okq q
  exact List.forall_mem_append.mpr ⟨lw_r1, lw_r2⟩
-- ===== ONE list of words for every method: the tables' words that hold all through a run =====
def lw_all : List Cond := lw_tbl.filter goodWord
/-- a word of the tables by its place: claim/WORDS.tsv -/
theorem lw_w {w : Cond} (i : Nat) (h : lw_tbl[i]? = some w) (g : goodWord w = true) : w ∈ lw_all := List.mem_filter.mpr ⟨List.mem_of_getElem? h, g⟩
theorem lw_all_tbl {w : Cond} (h : w ∈ lw_all) : w ∈ lw_tbl := (List.mem_filter.mp h).1
theorem lw_self : GoodIn lw_all lw_all := fun w h => ⟨h, good_of_word (List.mem_filter.mp h).2⟩
/-- a class's field words, by their places -/
theorem lw_in (ws : List Cond) (ps : List Nat) (hp : ws = ps.filterMap (fun i => lw_tbl[i]?)) (hg : ws.all goodWord = true) : ∀ w ∈ ws, w ∈ lw_all := by
  intro w h
  have h1 := List.all_eq_true.mp hg w h
  rw [hp] at h
  obtain ⟨i, -, hi⟩ := List.mem_filterMap.mp h
  exact lw_w i hi h1
/-- the words of a contract for the method y with code b, L locals, answer r -/
abbrev ws_ (y : MethodName) (b : ByteArray) (L : Nat) (r : Option FieldType) : List Cond := Cond.code y b L r :: lw_all
theorem lw_meth {y : MethodName} {b : ByteArray} {L : Nat} {r : Option FieldType} (h : Cond.code y b L r ∈ lw_all) : GoodIn lw_all (ws_ y b L r) := by
  intro w hw
  rcases List.mem_cons.mp hw with e | e
  · rw [e]
    exact lw_self _ h
  · exact lw_self _ e
theorem lw_app {a c : List Cond} (ha : ∀ w ∈ a, w ∈ lw_all) (hc : GoodIn lw_all c) : GoodIn lw_all (a ++ c) := by
  intro w hw
  rcases List.mem_append.mp hw with e | e
  · exact lw_self w (ha w e)
  · exact hc w e
/-- what a call through an object asks: cwV n hts (lw_V ..) -/
theorem lw_V {own : String} {idx : Nat} {C : String} {y : MethodName} {b : ByteArray} {L : Nat} {r : Option FieldType} (h1 : Cond.methodLink own idx y ∈ lw_all) (h2 : Cond.instanceMethod y ∈ lw_all) (h3 : Cond.selects C y y ∈ lw_all) (h4 : Cond.initialized C ∈ lw_all) (h5 : Cond.code y b L r ∈ lw_all) : GoodIn lw_all (wsV own idx C y (ws_ y b L r)) := by
  refine lw_app ?_ (lw_meth h5)
  intro w hw
  simp only [List.mem_cons, List.not_mem_nil, or_false] at hw
  rcases hw with e | e | e | e
  · rw [e]; exact h1
  · rw [e]; exact h2
  · rw [e]; exact h3
  · rw [e]; exact h4
/-- what a static call asks: va_cwS n hts (lw_S ..) -/
theorem lw_S {own : String} {idx : Nat} {y : MethodName} {b : ByteArray} {L : Nat} {r : Option FieldType} (h1 : Cond.methodLink own idx y ∈ lw_all) (h2 : Cond.static y ∈ lw_all) (h3 : Cond.initialized y.cls ∈ lw_all) (h4 : Cond.code y b L r ∈ lw_all) : GoodIn lw_all (va_wsS own idx y (ws_ y b L r)) := by
  refine lw_app ?_ (lw_meth h4)
  intro w hw
  simp only [List.mem_cons, List.not_mem_nil, or_false] at hw
  rcases hw with e | e | e
  · rw [e]; exact h1
  · rw [e]; exact h2
  · rw [e]; exact h3
/-- the words of a contract for a method WITH HANDLERS (hh: its table) -/
abbrev wsW_ (y : MethodName) (b : ByteArray) (L : Nat) (r : Option FieldType) (hh : List (Nat × Nat × Nat × Nat)) : List Cond := Cond.codeWith y b L r hh :: lw_all
theorem lw_methW {y : MethodName} {b : ByteArray} {L : Nat} {r : Option FieldType} {hh : List (Nat × Nat × Nat × Nat)} (h : Cond.codeWith y b L r hh ∈ lw_all) : GoodIn lw_all (wsW_ y b L r hh) := by
  intro w hw
  rcases List.mem_cons.mp hw with e | e
  · rw [e]
    exact lw_self _ h
  · exact lw_self _ e
/-- any list of words by their places (lw_in), good -/
theorem lw_good {ws : List Cond} (h : ∀ w ∈ ws, w ∈ lw_all) : GoodIn lw_all ws := fun w hw => lw_self w (h w hw)
/-- what a call of a method with handlers asks: vx_cwVW n hts (lw_VW ..), vx_cwSW n hts (lw_SW ..) -/
theorem lw_VW {own : String} {idx : Nat} {C : String} {y : MethodName} {b : ByteArray} {L : Nat} {r : Option FieldType} {hh : List (Nat × Nat × Nat × Nat)} (h1 : Cond.methodLink own idx y ∈ lw_all) (h2 : Cond.instanceMethod y ∈ lw_all) (h3 : Cond.selects C y y ∈ lw_all) (h4 : Cond.initialized C ∈ lw_all) (h5 : Cond.codeWith y b L r hh ∈ lw_all) : GoodIn lw_all (wsV own idx C y (wsW_ y b L r hh)) := by
  refine lw_app ?_ (lw_methW h5)
  intro w hw
  simp only [List.mem_cons, List.not_mem_nil, or_false] at hw
  rcases hw with e | e | e | e
  · rw [e]; exact h1
  · rw [e]; exact h2
  · rw [e]; exact h3
  · rw [e]; exact h4
theorem lw_SW {own : String} {idx : Nat} {y : MethodName} {b : ByteArray} {L : Nat} {r : Option FieldType} {hh : List (Nat × Nat × Nat × Nat)} (h1 : Cond.methodLink own idx y ∈ lw_all) (h2 : Cond.static y ∈ lw_all) (h3 : Cond.initialized y.cls ∈ lw_all) (h4 : Cond.codeWith y b L r hh ∈ lw_all) : GoodIn lw_all (va_wsS own idx y (wsW_ y b L r hh)) := by
  refine lw_app ?_ (lw_methW h4)
  intro w hw
  simp only [List.mem_cons, List.not_mem_nil, or_false] at hw
  rcases hw with e | e | e
  · rw [e]; exact h1
  · rw [e]; exact h2
  · rw [e]; exact h3
/-- a word by its place in its run of the tables -/
theorem lw_at {r : List Cond} (hr : ∀ w ∈ r, w ∈ lw_tbl) {w : Cond} (i : Nat) (h : r[i]? = some w) : w ∈ lw_tbl := hr w (List.mem_of_getElem? h)
theorem lw_g {w : Cond} (h : w ∈ lw_tbl) (g : goodWord w = true) : w ∈ lw_all := List.mem_filter.mpr ⟨h, g⟩
theorem lw_ms : ∀ w ∈ k2_sels lw_privs, w ∈ lw_tbl := fun w h => show w ∈ k2_sels lw_privs ++ tables_1 from List.mem_append_left _ h
theorem lw_m1 : ∀ w ∈ tables_1_1, w ∈ lw_tbl := fun w h => show w ∈ k2_sels lw_privs ++ tables_1 from List.mem_append_right (k2_sels lw_privs) (show w ∈ tables_1 from List.mem_append_left _ h)
theorem lw_m2 : ∀ w ∈ tables_1_2, w ∈ lw_tbl := fun w h => show w ∈ k2_sels lw_privs ++ tables_1 from List.mem_append_right (k2_sels lw_privs) (show w ∈ tables_1 from List.mem_append_right _ h)
theorem qs0 : (Cond.selects "ReteEngine" ⟨"ReteEngine", "update", "(IIZ)V"⟩ ⟨"ReteEngine", "update", "(IIZ)V"⟩) ∈ lw_all := lw_g (lw_at lw_ms 0 rfl) rfl
theorem qs1 : (Cond.selects "ReteEngine" ⟨"ReteEngine", "isIn", "(III)Z"⟩ ⟨"ReteEngine", "isIn", "(III)Z"⟩) ∈ lw_all := lw_g (lw_at lw_ms 1 rfl) rfl
theorem qs2 : (Cond.selects "ReteEngine" ⟨"ReteEngine", "extend", "(IIIIZ)V"⟩ ⟨"ReteEngine", "extend", "(IIIIZ)V"⟩) ∈ lw_all := lw_g (lw_at lw_ms 2 rfl) rfl
theorem qs3 : (Cond.selects "ReteEngine" ⟨"ReteEngine", "wasIn", "(III)Z"⟩ ⟨"ReteEngine", "wasIn", "(III)Z"⟩) ∈ lw_all := lw_g (lw_at lw_ms 3 rfl) rfl
theorem qs4 : (Cond.selects "ReteEngine" ⟨"ReteEngine", "bindAlong", "(III)V"⟩ ⟨"ReteEngine", "bindAlong", "(III)V"⟩) ∈ lw_all := lw_g (lw_at lw_ms 4 rfl) rfl
theorem qs5 : (Cond.selects "ReteEngine" ⟨"ReteEngine", "fits", "(IIZ)Z"⟩ ⟨"ReteEngine", "fits", "(IIZ)Z"⟩) ∈ lw_all := lw_g (lw_at lw_ms 5 rfl) rfl
theorem qs6 : (Cond.selects "ReteEngine" ⟨"ReteEngine", "meets", "(II)Z"⟩ ⟨"ReteEngine", "meets", "(II)Z"⟩) ∈ lw_all := lw_g (lw_at lw_ms 6 rfl) rfl
theorem qs7 : (Cond.selects "ReteEngine" ⟨"ReteEngine", "extendNegated", "(IIIZIZ)V"⟩ ⟨"ReteEngine", "extendNegated", "(IIIZIZ)V"⟩) ∈ lw_all := lw_g (lw_at lw_ms 7 rfl) rfl
theorem qs8 : (Cond.selects "ReteEngine" ⟨"ReteEngine", "anyFits", "(I)Z"⟩ ⟨"ReteEngine", "anyFits", "(I)Z"⟩) ∈ lw_all := lw_g (lw_at lw_ms 8 rfl) rfl
theorem qs9 : (Cond.selects "ReteEngine" ⟨"ReteEngine", "has", "(I)Z"⟩ ⟨"ReteEngine", "has", "(I)Z"⟩) ∈ lw_all := lw_g (lw_at lw_ms 9 rfl) rfl
theorem qs10 : (Cond.selects "ReteEngine" ⟨"ReteEngine", "put", "(III)V"⟩ ⟨"ReteEngine", "put", "(III)V"⟩) ∈ lw_all := lw_g (lw_at lw_ms 10 rfl) rfl
theorem qs11 : (Cond.selects "ReteEngine" ⟨"ReteEngine", "countAt", "(II)I"⟩ ⟨"ReteEngine", "countAt", "(II)I"⟩) ∈ lw_all := lw_g (lw_at lw_ms 11 rfl) rfl
theorem qs12 : (Cond.selects "ReteEngine" ⟨"ReteEngine", "looksRight", "(II)Z"⟩ ⟨"ReteEngine", "looksRight", "(II)Z"⟩) ∈ lw_all := lw_g (lw_at lw_ms 12 rfl) rfl
theorem qs13 : (Cond.selects "ReteEngineModel" ⟨"ReteEngineModel", "rule", "(I)Z"⟩ ⟨"ReteEngineModel", "rule", "(I)Z"⟩) ∈ lw_all := lw_g (lw_at lw_ms 13 rfl) rfl
theorem qs14 : (Cond.selects "ReteEngineModel" ⟨"ReteEngineModel", "fact", "(III)Z"⟩ ⟨"ReteEngineModel", "fact", "(III)Z"⟩) ∈ lw_all := lw_g (lw_at lw_ms 14 rfl) rfl
theorem qs15 : (Cond.selects "ReteEngineModel" ⟨"ReteEngineModel", "count", "(II)I"⟩ ⟨"ReteEngineModel", "count", "(II)I"⟩) ∈ lw_all := lw_g (lw_at lw_ms 15 rfl) rfl
theorem qs16 : (Cond.selects "ReteEngineModel" ⟨"ReteEngineModel", "isMatch", "(III)Z"⟩ ⟨"ReteEngineModel", "isMatch", "(III)Z"⟩) ∈ lw_all := lw_g (lw_at lw_ms 16 rfl) rfl
theorem qs17 : (Cond.selects "ReteEngineModel" ⟨"ReteEngineModel", "none", "(I)Z"⟩ ⟨"ReteEngineModel", "none", "(I)Z"⟩) ∈ lw_all := lw_g (lw_at lw_ms 17 rfl) rfl
theorem qs18 : (Cond.selects "ReteEngineModel" ⟨"ReteEngineModel", "takes", "(II)Z"⟩ ⟨"ReteEngineModel", "takes", "(II)Z"⟩) ∈ lw_all := lw_g (lw_at lw_ms 18 rfl) rfl
theorem qs19 : (Cond.selects "ReteEngineModel" ⟨"ReteEngineModel", "fits", "(II)Z"⟩ ⟨"ReteEngineModel", "fits", "(II)Z"⟩) ∈ lw_all := lw_g (lw_at lw_ms 19 rfl) rfl
end
section
/-! ReteEngine -/
set_option maxRecDepth 100000
def RX0 : String := "ReteEngine"
def TX0 : u_T := fun k => match k with
  | 0 => ("ReteEngine", "present", "I", false)
  | 1 => ("ReteEngine", "kinds", "[B", true)
  | 2 => ("ReteEngine", "as", "[B", true)
  | 3 => ("ReteEngine", "bs", "[B", true)
  | 4 => ("ReteEngine", "sizes", "[B", true)
  | 5 => ("ReteEngine", "wantedKind", "[B", true)
  | 6 => ("ReteEngine", "wantedA", "[B", true)
  | 7 => ("ReteEngine", "wantedB", "[B", true)
  | 8 => ("ReteEngine", "negated", "[Z", true)
  | 9 => ("ReteEngine", "words", "[J", true)
  | 10 => ("ReteEngine", "before", "[J", true)
  | 11 => ("ReteEngine", "bound", "[B", true)
  | _ => ("ReteEngine", "tentative", "[B", true)
def tyX0 : Nat → FieldType := fun k => match k with
  | 0 => .int
  | 1 => .array .byte
  | 2 => .array .byte
  | 3 => .array .byte
  | 4 => .array .byte
  | 5 => .array .byte
  | 6 => .array .byte
  | 7 => .array .byte
  | 8 => .array .boolean
  | 9 => .array .long
  | 10 => .array .long
  | 11 => .array .byte
  | _ => .array .byte
abbrev wsX00 : List Cond := u_ws RX0 TX0 13
set_option maxRecDepth 100000 in
theorem nmX0 : ∀ a, a < 13 → ∀ b, b < 13 → a ≠ b → (TX0 a).2.1 ≠ (TX0 b).2.1 := by decide +kernel
set_option maxRecDepth 100000 in
theorem tyX0_ok : ∀ k, k < 13 → parseFieldDescriptor (TX0 k).2.2.1 = some (tyX0 k) := by decide +kernel
abbrev cX0_init : ByteArray := prog_1_method_1_code
def yX0_init : MethodName := ⟨RX0, "<init>", "()V"⟩
theorem dX0_init_0 : decode cX0_init 0 = .ok (.aload_n 0, 1) := by decide +kernel
theorem dX0_init_1 : decode cX0_init 1 = .ok (.invokespecial 1, 3) := by decide +kernel
theorem dX0_init_4 : decode cX0_init 4 = .ok (.aload_n 0, 1) := by decide +kernel
theorem dX0_init_5 : decode cX0_init 5 = .ok (.bipush 7, 2) := by decide +kernel
theorem dX0_init_7 : decode cX0_init 7 = .ok (.newarray .byte, 2) := by decide +kernel
theorem dX0_init_9 : decode cX0_init 9 = .ok (.putfield 7, 3) := by decide +kernel
theorem dX0_init_12 : decode cX0_init 12 = .ok (.aload_n 0, 1) := by decide +kernel
theorem dX0_init_13 : decode cX0_init 13 = .ok (.bipush 7, 2) := by decide +kernel
theorem dX0_init_15 : decode cX0_init 15 = .ok (.newarray .byte, 2) := by decide +kernel
theorem dX0_init_17 : decode cX0_init 17 = .ok (.putfield 13, 3) := by decide +kernel
theorem dX0_init_20 : decode cX0_init 20 = .ok (.aload_n 0, 1) := by decide +kernel
theorem dX0_init_21 : decode cX0_init 21 = .ok (.bipush 7, 2) := by decide +kernel
theorem dX0_init_23 : decode cX0_init 23 = .ok (.newarray .byte, 2) := by decide +kernel
theorem dX0_init_25 : decode cX0_init 25 = .ok (.putfield 16, 3) := by decide +kernel
theorem dX0_init_28 : decode cX0_init 28 = .ok (.aload_n 0, 1) := by decide +kernel
theorem dX0_init_29 : decode cX0_init 29 = .ok (.iconst 3, 1) := by decide +kernel
theorem dX0_init_30 : decode cX0_init 30 = .ok (.newarray .byte, 2) := by decide +kernel
theorem dX0_init_32 : decode cX0_init 32 = .ok (.putfield 19, 3) := by decide +kernel
theorem dX0_init_35 : decode cX0_init 35 = .ok (.aload_n 0, 1) := by decide +kernel
theorem dX0_init_36 : decode cX0_init 36 = .ok (.bipush 9, 2) := by decide +kernel
theorem dX0_init_38 : decode cX0_init 38 = .ok (.newarray .byte, 2) := by decide +kernel
theorem dX0_init_40 : decode cX0_init 40 = .ok (.putfield 22, 3) := by decide +kernel
theorem dX0_init_43 : decode cX0_init 43 = .ok (.aload_n 0, 1) := by decide +kernel
theorem dX0_init_44 : decode cX0_init 44 = .ok (.bipush 9, 2) := by decide +kernel
theorem dX0_init_46 : decode cX0_init 46 = .ok (.newarray .byte, 2) := by decide +kernel
theorem dX0_init_48 : decode cX0_init 48 = .ok (.putfield 25, 3) := by decide +kernel
theorem dX0_init_51 : decode cX0_init 51 = .ok (.aload_n 0, 1) := by decide +kernel
theorem dX0_init_52 : decode cX0_init 52 = .ok (.bipush 9, 2) := by decide +kernel
theorem dX0_init_54 : decode cX0_init 54 = .ok (.newarray .byte, 2) := by decide +kernel
theorem dX0_init_56 : decode cX0_init 56 = .ok (.putfield 28, 3) := by decide +kernel
theorem dX0_init_59 : decode cX0_init 59 = .ok (.aload_n 0, 1) := by decide +kernel
theorem dX0_init_60 : decode cX0_init 60 = .ok (.bipush 9, 2) := by decide +kernel
theorem dX0_init_62 : decode cX0_init 62 = .ok (.newarray .boolean, 2) := by decide +kernel
theorem dX0_init_64 : decode cX0_init 64 = .ok (.putfield 31, 3) := by decide +kernel
theorem dX0_init_67 : decode cX0_init 67 = .ok (.aload_n 0, 1) := by decide +kernel
theorem dX0_init_68 : decode cX0_init 68 = .ok (.bipush 33, 2) := by decide +kernel
theorem dX0_init_70 : decode cX0_init 70 = .ok (.newarray .long, 2) := by decide +kernel
theorem dX0_init_72 : decode cX0_init 72 = .ok (.putfield 35, 3) := by decide +kernel
theorem dX0_init_75 : decode cX0_init 75 = .ok (.aload_n 0, 1) := by decide +kernel
theorem dX0_init_76 : decode cX0_init 76 = .ok (.bipush 33, 2) := by decide +kernel
theorem dX0_init_78 : decode cX0_init 78 = .ok (.newarray .long, 2) := by decide +kernel
theorem dX0_init_80 : decode cX0_init 80 = .ok (.putfield 39, 3) := by decide +kernel
theorem dX0_init_83 : decode cX0_init 83 = .ok (.aload_n 0, 1) := by decide +kernel
theorem dX0_init_84 : decode cX0_init 84 = .ok (.iconst 3, 1) := by decide +kernel
theorem dX0_init_85 : decode cX0_init 85 = .ok (.newarray .byte, 2) := by decide +kernel
theorem dX0_init_87 : decode cX0_init 87 = .ok (.putfield 42, 3) := by decide +kernel
theorem dX0_init_90 : decode cX0_init 90 = .ok (.aload_n 0, 1) := by decide +kernel
theorem dX0_init_91 : decode cX0_init 91 = .ok (.iconst 3, 1) := by decide +kernel
theorem dX0_init_92 : decode cX0_init 92 = .ok (.newarray .byte, 2) := by decide +kernel
theorem dX0_init_94 : decode cX0_init 94 = .ok (.putfield 45, 3) := by decide +kernel
theorem dX0_init_97 : decode cX0_init 97 = .ok (.iconst 0, 1) := by decide +kernel
theorem dX0_init_98 : decode cX0_init 98 = .ok (.istore_n 1, 1) := by decide +kernel
theorem dX0_init_99 : decode cX0_init 99 = .ok (.iload_n 1, 1) := by decide +kernel
theorem dX0_init_100 : decode cX0_init 100 = .ok (.iconst 3, 1) := by decide +kernel
theorem dX0_init_101 : decode cX0_init 101 = .ok (.if_icmp .ge 19, 3) := by decide +kernel
theorem dX0_init_104 : decode cX0_init 104 = .ok (.aload_n 0, 1) := by decide +kernel
theorem dX0_init_105 : decode cX0_init 105 = .ok (.getfield 35, 3) := by decide +kernel
theorem dX0_init_108 : decode cX0_init 108 = .ok (.iload_n 1, 1) := by decide +kernel
theorem dX0_init_109 : decode cX0_init 109 = .ok (.bipush 11, 2) := by decide +kernel
theorem dX0_init_111 : decode cX0_init 111 = .ok (.imul, 1) := by decide +kernel
theorem dX0_init_112 : decode cX0_init 112 = .ok (.lconst 1, 1) := by decide +kernel
theorem dX0_init_113 : decode cX0_init 113 = .ok (.lastore, 1) := by decide +kernel
theorem dX0_init_114 : decode cX0_init 114 = .ok (.iinc 1 1, 3) := by decide +kernel
theorem dX0_init_117 : decode cX0_init 117 = .ok (.goto (-18), 3) := by decide +kernel
theorem dX0_init_120 : decode cX0_init 120 = .ok (.return_, 1) := by decide +kernel
abbrev cX0_condition : ByteArray := prog_1_method_18_code
def yX0_condition : MethodName := ⟨RX0, "condition", "(II)I"⟩
theorem dX0_condition_0 : decode cX0_condition 0 = .ok (.iload_n 1, 1) := by decide +kernel
theorem dX0_condition_1 : decode cX0_condition 1 = .ok (.invokestatic 100, 3) := by decide +kernel
theorem dX0_condition_4 : decode cX0_condition 4 = .ok (.ifCond .eq 21, 3) := by decide +kernel
theorem dX0_condition_7 : decode cX0_condition 7 = .ok (.iload_n 2, 1) := by decide +kernel
theorem dX0_condition_8 : decode cX0_condition 8 = .ok (.ifCond .lt 17, 3) := by decide +kernel
theorem dX0_condition_11 : decode cX0_condition 11 = .ok (.iload_n 2, 1) := by decide +kernel
theorem dX0_condition_12 : decode cX0_condition 12 = .ok (.sipush 511, 3) := by decide +kernel
theorem dX0_condition_15 : decode cX0_condition 15 = .ok (.if_icmp .gt 10, 3) := by decide +kernel
theorem dX0_condition_18 : decode cX0_condition 18 = .ok (.iload_n 2, 1) := by decide +kernel
theorem dX0_condition_19 : decode cX0_condition 19 = .ok (.iconst 3, 1) := by decide +kernel
theorem dX0_condition_20 : decode cX0_condition 20 = .ok (.iand, 1) := by decide +kernel
theorem dX0_condition_21 : decode cX0_condition 21 = .ok (.iconst 2, 1) := by decide +kernel
theorem dX0_condition_22 : decode cX0_condition 22 = .ok (.if_icmp .le 5, 3) := by decide +kernel
theorem dX0_condition_25 : decode cX0_condition 25 = .ok (.iconst (-1), 1) := by decide +kernel
theorem dX0_condition_26 : decode cX0_condition 26 = .ok (.ireturn, 1) := by decide +kernel
theorem dX0_condition_27 : decode cX0_condition 27 = .ok (.aload_n 0, 1) := by decide +kernel
theorem dX0_condition_28 : decode cX0_condition 28 = .ok (.getfield 19, 3) := by decide +kernel
theorem dX0_condition_31 : decode cX0_condition 31 = .ok (.iload_n 1, 1) := by decide +kernel
theorem dX0_condition_32 : decode cX0_condition 32 = .ok (.baload, 1) := by decide +kernel
theorem dX0_condition_33 : decode cX0_condition 33 = .ok (.iconst 3, 1) := by decide +kernel
theorem dX0_condition_34 : decode cX0_condition 34 = .ok (.if_icmp .lt 6, 3) := by decide +kernel
theorem dX0_condition_37 : decode cX0_condition 37 = .ok (.bipush (-2), 2) := by decide +kernel
theorem dX0_condition_39 : decode cX0_condition 39 = .ok (.ireturn, 1) := by decide +kernel
theorem dX0_condition_40 : decode cX0_condition 40 = .ok (.iload_n 1, 1) := by decide +kernel
theorem dX0_condition_41 : decode cX0_condition 41 = .ok (.iconst 3, 1) := by decide +kernel
theorem dX0_condition_42 : decode cX0_condition 42 = .ok (.imul, 1) := by decide +kernel
theorem dX0_condition_43 : decode cX0_condition 43 = .ok (.aload_n 0, 1) := by decide +kernel
theorem dX0_condition_44 : decode cX0_condition 44 = .ok (.getfield 19, 3) := by decide +kernel
theorem dX0_condition_47 : decode cX0_condition 47 = .ok (.iload_n 1, 1) := by decide +kernel
theorem dX0_condition_48 : decode cX0_condition 48 = .ok (.baload, 1) := by decide +kernel
theorem dX0_condition_49 : decode cX0_condition 49 = .ok (.iadd, 1) := by decide +kernel
theorem dX0_condition_50 : decode cX0_condition 50 = .ok (.istore_n 3, 1) := by decide +kernel
theorem dX0_condition_51 : decode cX0_condition 51 = .ok (.aload_n 0, 1) := by decide +kernel
theorem dX0_condition_52 : decode cX0_condition 52 = .ok (.getfield 22, 3) := by decide +kernel
theorem dX0_condition_55 : decode cX0_condition 55 = .ok (.iload_n 3, 1) := by decide +kernel
theorem dX0_condition_56 : decode cX0_condition 56 = .ok (.iload_n 2, 1) := by decide +kernel
theorem dX0_condition_57 : decode cX0_condition 57 = .ok (.iconst 3, 1) := by decide +kernel
theorem dX0_condition_58 : decode cX0_condition 58 = .ok (.iand, 1) := by decide +kernel
theorem dX0_condition_59 : decode cX0_condition 59 = .ok (.i2b, 1) := by decide +kernel
theorem dX0_condition_60 : decode cX0_condition 60 = .ok (.bastore, 1) := by decide +kernel
theorem dX0_condition_61 : decode cX0_condition 61 = .ok (.aload_n 0, 1) := by decide +kernel
theorem dX0_condition_62 : decode cX0_condition 62 = .ok (.getfield 25, 3) := by decide +kernel
theorem dX0_condition_65 : decode cX0_condition 65 = .ok (.iload_n 3, 1) := by decide +kernel
theorem dX0_condition_66 : decode cX0_condition 66 = .ok (.iload_n 2, 1) := by decide +kernel
theorem dX0_condition_67 : decode cX0_condition 67 = .ok (.iconst 2, 1) := by decide +kernel
theorem dX0_condition_68 : decode cX0_condition 68 = .ok (.ishr, 1) := by decide +kernel
theorem dX0_condition_69 : decode cX0_condition 69 = .ok (.bipush 7, 2) := by decide +kernel
theorem dX0_condition_71 : decode cX0_condition 71 = .ok (.iand, 1) := by decide +kernel
theorem dX0_condition_72 : decode cX0_condition 72 = .ok (.i2b, 1) := by decide +kernel
theorem dX0_condition_73 : decode cX0_condition 73 = .ok (.bastore, 1) := by decide +kernel
theorem dX0_condition_74 : decode cX0_condition 74 = .ok (.aload_n 0, 1) := by decide +kernel
theorem dX0_condition_75 : decode cX0_condition 75 = .ok (.getfield 28, 3) := by decide +kernel
theorem dX0_condition_78 : decode cX0_condition 78 = .ok (.iload_n 3, 1) := by decide +kernel
theorem dX0_condition_79 : decode cX0_condition 79 = .ok (.iload_n 2, 1) := by decide +kernel
theorem dX0_condition_80 : decode cX0_condition 80 = .ok (.iconst 5, 1) := by decide +kernel
theorem dX0_condition_81 : decode cX0_condition 81 = .ok (.ishr, 1) := by decide +kernel
theorem dX0_condition_82 : decode cX0_condition 82 = .ok (.bipush 7, 2) := by decide +kernel
theorem dX0_condition_84 : decode cX0_condition 84 = .ok (.iand, 1) := by decide +kernel
theorem dX0_condition_85 : decode cX0_condition 85 = .ok (.i2b, 1) := by decide +kernel
theorem dX0_condition_86 : decode cX0_condition 86 = .ok (.bastore, 1) := by decide +kernel
theorem dX0_condition_87 : decode cX0_condition 87 = .ok (.aload_n 0, 1) := by decide +kernel
theorem dX0_condition_88 : decode cX0_condition 88 = .ok (.getfield 31, 3) := by decide +kernel
theorem dX0_condition_91 : decode cX0_condition 91 = .ok (.iload_n 3, 1) := by decide +kernel
theorem dX0_condition_92 : decode cX0_condition 92 = .ok (.iload_n 2, 1) := by decide +kernel
theorem dX0_condition_93 : decode cX0_condition 93 = .ok (.sipush 256, 3) := by decide +kernel
theorem dX0_condition_96 : decode cX0_condition 96 = .ok (.if_icmp .lt 7, 3) := by decide +kernel
theorem dX0_condition_99 : decode cX0_condition 99 = .ok (.iconst 1, 1) := by decide +kernel
theorem dX0_condition_100 : decode cX0_condition 100 = .ok (.goto 4, 3) := by decide +kernel
theorem dX0_condition_103 : decode cX0_condition 103 = .ok (.iconst 0, 1) := by decide +kernel
theorem dX0_condition_104 : decode cX0_condition 104 = .ok (.bastore, 1) := by decide +kernel
theorem dX0_condition_105 : decode cX0_condition 105 = .ok (.aload_n 0, 1) := by decide +kernel
theorem dX0_condition_106 : decode cX0_condition 106 = .ok (.getfield 19, 3) := by decide +kernel
theorem dX0_condition_109 : decode cX0_condition 109 = .ok (.iload_n 1, 1) := by decide +kernel
theorem dX0_condition_110 : decode cX0_condition 110 = .ok (.dup2, 1) := by decide +kernel
theorem dX0_condition_111 : decode cX0_condition 111 = .ok (.baload, 1) := by decide +kernel
theorem dX0_condition_112 : decode cX0_condition 112 = .ok (.iconst 1, 1) := by decide +kernel
theorem dX0_condition_113 : decode cX0_condition 113 = .ok (.iadd, 1) := by decide +kernel
theorem dX0_condition_114 : decode cX0_condition 114 = .ok (.i2b, 1) := by decide +kernel
theorem dX0_condition_115 : decode cX0_condition 115 = .ok (.bastore, 1) := by decide +kernel
theorem dX0_condition_116 : decode cX0_condition 116 = .ok (.aload_n 0, 1) := by decide +kernel
theorem dX0_condition_117 : decode cX0_condition 117 = .ok (.iload_n 1, 1) := by decide +kernel
theorem dX0_condition_118 : decode cX0_condition 118 = .ok (.iconst (-1), 1) := by decide +kernel
theorem dX0_condition_119 : decode cX0_condition 119 = .ok (.iconst 1, 1) := by decide +kernel
theorem dX0_condition_120 : decode cX0_condition 120 = .ok (.invokevirtual 103, 3) := by decide +kernel
theorem dX0_condition_123 : decode cX0_condition 123 = .ok (.aload_n 0, 1) := by decide +kernel
theorem dX0_condition_124 : decode cX0_condition 124 = .ok (.getfield 19, 3) := by decide +kernel
theorem dX0_condition_127 : decode cX0_condition 127 = .ok (.iload_n 1, 1) := by decide +kernel
theorem dX0_condition_128 : decode cX0_condition 128 = .ok (.baload, 1) := by decide +kernel
theorem dX0_condition_129 : decode cX0_condition 129 = .ok (.ireturn, 1) := by decide +kernel
abbrev cX0_isRule : ByteArray := prog_1_method_2_code
def yX0_isRule : MethodName := ⟨RX0, "isRule", "(I)Z"⟩
theorem dX0_isRule_0 : decode cX0_isRule 0 = .ok (.iload_n 0, 1) := by decide +kernel
theorem dX0_isRule_1 : decode cX0_isRule 1 = .ok (.ifCond .lt 12, 3) := by decide +kernel
theorem dX0_isRule_4 : decode cX0_isRule 4 = .ok (.iload_n 0, 1) := by decide +kernel
theorem dX0_isRule_5 : decode cX0_isRule 5 = .ok (.iconst 3, 1) := by decide +kernel
theorem dX0_isRule_6 : decode cX0_isRule 6 = .ok (.if_icmp .ge 7, 3) := by decide +kernel
theorem dX0_isRule_9 : decode cX0_isRule 9 = .ok (.iconst 1, 1) := by decide +kernel
theorem dX0_isRule_10 : decode cX0_isRule 10 = .ok (.goto 4, 3) := by decide +kernel
theorem dX0_isRule_13 : decode cX0_isRule 13 = .ok (.iconst 0, 1) := by decide +kernel
theorem dX0_isRule_14 : decode cX0_isRule 14 = .ok (.ireturn, 1) := by decide +kernel
abbrev cX0_update : ByteArray := prog_1_method_14_code
def yX0_update : MethodName := ⟨RX0, "update", "(IIZ)V"⟩
theorem dX0_update_0 : decode cX0_update 0 = .ok (.iconst 0, 1) := by decide +kernel
theorem dX0_update_1 : decode cX0_update 1 = .ok (.istore 4, 2) := by decide +kernel
theorem dX0_update_3 : decode cX0_update 3 = .ok (.iload 4, 2) := by decide +kernel
theorem dX0_update_5 : decode cX0_update 5 = .ok (.bipush 11, 2) := by decide +kernel
theorem dX0_update_7 : decode cX0_update 7 = .ok (.if_icmp .ge 54, 3) := by decide +kernel
theorem dX0_update_10 : decode cX0_update 10 = .ok (.aload_n 0, 1) := by decide +kernel
theorem dX0_update_11 : decode cX0_update 11 = .ok (.getfield 39, 3) := by decide +kernel
theorem dX0_update_14 : decode cX0_update 14 = .ok (.iload_n 1, 1) := by decide +kernel
theorem dX0_update_15 : decode cX0_update 15 = .ok (.bipush 11, 2) := by decide +kernel
theorem dX0_update_17 : decode cX0_update 17 = .ok (.imul, 1) := by decide +kernel
theorem dX0_update_18 : decode cX0_update 18 = .ok (.iload 4, 2) := by decide +kernel
theorem dX0_update_20 : decode cX0_update 20 = .ok (.iadd, 1) := by decide +kernel
theorem dX0_update_21 : decode cX0_update 21 = .ok (.iload_n 2, 1) := by decide +kernel
theorem dX0_update_22 : decode cX0_update 22 = .ok (.ifCond .ge 7, 3) := by decide +kernel
theorem dX0_update_25 : decode cX0_update 25 = .ok (.lconst 0, 1) := by decide +kernel
theorem dX0_update_26 : decode cX0_update 26 = .ok (.goto 15, 3) := by decide +kernel
theorem dX0_update_29 : decode cX0_update 29 = .ok (.aload_n 0, 1) := by decide +kernel
theorem dX0_update_30 : decode cX0_update 30 = .ok (.getfield 35, 3) := by decide +kernel
theorem dX0_update_33 : decode cX0_update 33 = .ok (.iload_n 1, 1) := by decide +kernel
theorem dX0_update_34 : decode cX0_update 34 = .ok (.bipush 11, 2) := by decide +kernel
theorem dX0_update_36 : decode cX0_update 36 = .ok (.imul, 1) := by decide +kernel
theorem dX0_update_37 : decode cX0_update 37 = .ok (.iload 4, 2) := by decide +kernel
theorem dX0_update_39 : decode cX0_update 39 = .ok (.iadd, 1) := by decide +kernel
theorem dX0_update_40 : decode cX0_update 40 = .ok (.laload, 1) := by decide +kernel
theorem dX0_update_41 : decode cX0_update 41 = .ok (.lastore, 1) := by decide +kernel
theorem dX0_update_42 : decode cX0_update 42 = .ok (.aload_n 0, 1) := by decide +kernel
theorem dX0_update_43 : decode cX0_update 43 = .ok (.getfield 35, 3) := by decide +kernel
theorem dX0_update_46 : decode cX0_update 46 = .ok (.iload_n 1, 1) := by decide +kernel
theorem dX0_update_47 : decode cX0_update 47 = .ok (.bipush 11, 2) := by decide +kernel
theorem dX0_update_49 : decode cX0_update 49 = .ok (.imul, 1) := by decide +kernel
theorem dX0_update_50 : decode cX0_update 50 = .ok (.iload 4, 2) := by decide +kernel
theorem dX0_update_52 : decode cX0_update 52 = .ok (.iadd, 1) := by decide +kernel
theorem dX0_update_53 : decode cX0_update 53 = .ok (.lconst 0, 1) := by decide +kernel
theorem dX0_update_54 : decode cX0_update 54 = .ok (.lastore, 1) := by decide +kernel
theorem dX0_update_55 : decode cX0_update 55 = .ok (.iinc 4 1, 3) := by decide +kernel
theorem dX0_update_58 : decode cX0_update 58 = .ok (.goto (-55), 3) := by decide +kernel
theorem dX0_update_61 : decode cX0_update 61 = .ok (.aload_n 0, 1) := by decide +kernel
theorem dX0_update_62 : decode cX0_update 62 = .ok (.getfield 35, 3) := by decide +kernel
theorem dX0_update_65 : decode cX0_update 65 = .ok (.iload_n 1, 1) := by decide +kernel
theorem dX0_update_66 : decode cX0_update 66 = .ok (.bipush 11, 2) := by decide +kernel
theorem dX0_update_68 : decode cX0_update 68 = .ok (.imul, 1) := by decide +kernel
theorem dX0_update_69 : decode cX0_update 69 = .ok (.lconst 1, 1) := by decide +kernel
theorem dX0_update_70 : decode cX0_update 70 = .ok (.lastore, 1) := by decide +kernel
theorem dX0_update_71 : decode cX0_update 71 = .ok (.aload_n 0, 1) := by decide +kernel
theorem dX0_update_72 : decode cX0_update 72 = .ok (.getfield 39, 3) := by decide +kernel
theorem dX0_update_75 : decode cX0_update 75 = .ok (.iload_n 1, 1) := by decide +kernel
theorem dX0_update_76 : decode cX0_update 76 = .ok (.bipush 11, 2) := by decide +kernel
theorem dX0_update_78 : decode cX0_update 78 = .ok (.imul, 1) := by decide +kernel
theorem dX0_update_79 : decode cX0_update 79 = .ok (.iload_n 2, 1) := by decide +kernel
theorem dX0_update_80 : decode cX0_update 80 = .ok (.ifCond .ge 7, 3) := by decide +kernel
theorem dX0_update_83 : decode cX0_update 83 = .ok (.lconst 0, 1) := by decide +kernel
theorem dX0_update_84 : decode cX0_update 84 = .ok (.goto 4, 3) := by decide +kernel
theorem dX0_update_87 : decode cX0_update 87 = .ok (.lconst 1, 1) := by decide +kernel
theorem dX0_update_88 : decode cX0_update 88 = .ok (.lastore, 1) := by decide +kernel
theorem dX0_update_89 : decode cX0_update 89 = .ok (.iconst 0, 1) := by decide +kernel
theorem dX0_update_90 : decode cX0_update 90 = .ok (.istore 4, 2) := by decide +kernel
theorem dX0_update_92 : decode cX0_update 92 = .ok (.iload 4, 2) := by decide +kernel
theorem dX0_update_94 : decode cX0_update 94 = .ok (.aload_n 0, 1) := by decide +kernel
theorem dX0_update_95 : decode cX0_update 95 = .ok (.getfield 19, 3) := by decide +kernel
theorem dX0_update_98 : decode cX0_update 98 = .ok (.iload_n 1, 1) := by decide +kernel
theorem dX0_update_99 : decode cX0_update 99 = .ok (.baload, 1) := by decide +kernel
theorem dX0_update_100 : decode cX0_update 100 = .ok (.if_icmp .ge 51, 3) := by decide +kernel
theorem dX0_update_103 : decode cX0_update 103 = .ok (.iconst 0, 1) := by decide +kernel
theorem dX0_update_104 : decode cX0_update 104 = .ok (.istore 5, 2) := by decide +kernel
theorem dX0_update_106 : decode cX0_update 106 = .ok (.iload 5, 2) := by decide +kernel
theorem dX0_update_108 : decode cX0_update 108 = .ok (.iload 4, 2) := by decide +kernel
theorem dX0_update_110 : decode cX0_update 110 = .ok (.invokestatic 67, 3) := by decide +kernel
theorem dX0_update_113 : decode cX0_update 113 = .ok (.if_icmp .ge 32, 3) := by decide +kernel
theorem dX0_update_116 : decode cX0_update 116 = .ok (.aload_n 0, 1) := by decide +kernel
theorem dX0_update_117 : decode cX0_update 117 = .ok (.iload_n 1, 1) := by decide +kernel
theorem dX0_update_118 : decode cX0_update 118 = .ok (.iload 4, 2) := by decide +kernel
theorem dX0_update_120 : decode cX0_update 120 = .ok (.iload 5, 2) := by decide +kernel
theorem dX0_update_122 : decode cX0_update 122 = .ok (.invokevirtual 71, 3) := by decide +kernel
theorem dX0_update_125 : decode cX0_update 125 = .ok (.ifCond .eq 14, 3) := by decide +kernel
theorem dX0_update_128 : decode cX0_update 128 = .ok (.aload_n 0, 1) := by decide +kernel
theorem dX0_update_129 : decode cX0_update 129 = .ok (.iload_n 1, 1) := by decide +kernel
theorem dX0_update_130 : decode cX0_update 130 = .ok (.iload 4, 2) := by decide +kernel
theorem dX0_update_132 : decode cX0_update 132 = .ok (.iload 5, 2) := by decide +kernel
theorem dX0_update_134 : decode cX0_update 134 = .ok (.iload_n 2, 1) := by decide +kernel
theorem dX0_update_135 : decode cX0_update 135 = .ok (.iload_n 3, 1) := by decide +kernel
theorem dX0_update_136 : decode cX0_update 136 = .ok (.invokevirtual 75, 3) := by decide +kernel
theorem dX0_update_139 : decode cX0_update 139 = .ok (.iinc 5 1, 3) := by decide +kernel
theorem dX0_update_142 : decode cX0_update 142 = .ok (.goto (-36), 3) := by decide +kernel
theorem dX0_update_145 : decode cX0_update 145 = .ok (.iinc 4 1, 3) := by decide +kernel
theorem dX0_update_148 : decode cX0_update 148 = .ok (.goto (-56), 3) := by decide +kernel
theorem dX0_update_151 : decode cX0_update 151 = .ok (.return_, 1) := by decide +kernel
abbrev cX0_codes : ByteArray := prog_1_method_8_code
def yX0_codes : MethodName := ⟨RX0, "codes", "(I)I"⟩
theorem dX0_codes_0 : decode cX0_codes 0 = .ok (.iconst 1, 1) := by decide +kernel
theorem dX0_codes_1 : decode cX0_codes 1 = .ok (.iconst 3, 1) := by decide +kernel
theorem dX0_codes_2 : decode cX0_codes 2 = .ok (.iload_n 0, 1) := by decide +kernel
theorem dX0_codes_3 : decode cX0_codes 3 = .ok (.imul, 1) := by decide +kernel
theorem dX0_codes_4 : decode cX0_codes 4 = .ok (.ishl, 1) := by decide +kernel
theorem dX0_codes_5 : decode cX0_codes 5 = .ok (.ireturn, 1) := by decide +kernel
abbrev cX0_isIn : ByteArray := prog_1_method_5_code
def yX0_isIn : MethodName := ⟨RX0, "isIn", "(III)Z"⟩
theorem dX0_isIn_0 : decode cX0_isIn 0 = .ok (.iload_n 1, 1) := by decide +kernel
theorem dX0_isIn_1 : decode cX0_isIn 1 = .ok (.iload_n 2, 1) := by decide +kernel
theorem dX0_isIn_2 : decode cX0_isIn 2 = .ok (.iload_n 3, 1) := by decide +kernel
theorem dX0_isIn_3 : decode cX0_isIn 3 = .ok (.invokestatic 52, 3) := by decide +kernel
theorem dX0_isIn_6 : decode cX0_isIn 6 = .ok (.istore 4, 2) := by decide +kernel
theorem dX0_isIn_8 : decode cX0_isIn 8 = .ok (.aload_n 0, 1) := by decide +kernel
theorem dX0_isIn_9 : decode cX0_isIn 9 = .ok (.getfield 35, 3) := by decide +kernel
theorem dX0_isIn_12 : decode cX0_isIn 12 = .ok (.iload 4, 2) := by decide +kernel
theorem dX0_isIn_14 : decode cX0_isIn 14 = .ok (.laload, 1) := by decide +kernel
theorem dX0_isIn_15 : decode cX0_isIn 15 = .ok (.iload_n 3, 1) := by decide +kernel
theorem dX0_isIn_16 : decode cX0_isIn 16 = .ok (.bipush 63, 2) := by decide +kernel
theorem dX0_isIn_18 : decode cX0_isIn 18 = .ok (.iand, 1) := by decide +kernel
theorem dX0_isIn_19 : decode cX0_isIn 19 = .ok (.lushr, 1) := by decide +kernel
theorem dX0_isIn_20 : decode cX0_isIn 20 = .ok (.lconst 1, 1) := by decide +kernel
theorem dX0_isIn_21 : decode cX0_isIn 21 = .ok (.land, 1) := by decide +kernel
theorem dX0_isIn_22 : decode cX0_isIn 22 = .ok (.lconst 0, 1) := by decide +kernel
theorem dX0_isIn_23 : decode cX0_isIn 23 = .ok (.lcmp, 1) := by decide +kernel
theorem dX0_isIn_24 : decode cX0_isIn 24 = .ok (.ifCond .eq 7, 3) := by decide +kernel
theorem dX0_isIn_27 : decode cX0_isIn 27 = .ok (.iconst 1, 1) := by decide +kernel
theorem dX0_isIn_28 : decode cX0_isIn 28 = .ok (.goto 4, 3) := by decide +kernel
theorem dX0_isIn_31 : decode cX0_isIn 31 = .ok (.iconst 0, 1) := by decide +kernel
theorem dX0_isIn_32 : decode cX0_isIn 32 = .ok (.ireturn, 1) := by decide +kernel
abbrev cX0_wordOf : ByteArray := prog_1_method_4_code
def yX0_wordOf : MethodName := ⟨RX0, "wordOf", "(III)I"⟩
theorem dX0_wordOf_0 : decode cX0_wordOf 0 = .ok (.iload_n 0, 1) := by decide +kernel
theorem dX0_wordOf_1 : decode cX0_wordOf 1 = .ok (.bipush 11, 2) := by decide +kernel
theorem dX0_wordOf_3 : decode cX0_wordOf 3 = .ok (.imul, 1) := by decide +kernel
theorem dX0_wordOf_4 : decode cX0_wordOf 4 = .ok (.iload_n 1, 1) := by decide +kernel
theorem dX0_wordOf_5 : decode cX0_wordOf 5 = .ok (.iadd, 1) := by decide +kernel
theorem dX0_wordOf_6 : decode cX0_wordOf 6 = .ok (.iload_n 2, 1) := by decide +kernel
theorem dX0_wordOf_7 : decode cX0_wordOf 7 = .ok (.bipush 6, 2) := by decide +kernel
theorem dX0_wordOf_9 : decode cX0_wordOf 9 = .ok (.ishr, 1) := by decide +kernel
theorem dX0_wordOf_10 : decode cX0_wordOf 10 = .ok (.iadd, 1) := by decide +kernel
theorem dX0_wordOf_11 : decode cX0_wordOf 11 = .ok (.ireturn, 1) := by decide +kernel
abbrev cX0_extend : ByteArray := prog_1_method_15_code
def yX0_extend : MethodName := ⟨RX0, "extend", "(IIIIZ)V"⟩
theorem dX0_extend_0 : decode cX0_extend 0 = .ok (.iload_n 1, 1) := by decide +kernel
theorem dX0_extend_1 : decode cX0_extend 1 = .ok (.iconst 3, 1) := by decide +kernel
theorem dX0_extend_2 : decode cX0_extend 2 = .ok (.imul, 1) := by decide +kernel
theorem dX0_extend_3 : decode cX0_extend 3 = .ok (.iload_n 2, 1) := by decide +kernel
theorem dX0_extend_4 : decode cX0_extend 4 = .ok (.iadd, 1) := by decide +kernel
theorem dX0_extend_5 : decode cX0_extend 5 = .ok (.istore 6, 2) := by decide +kernel
theorem dX0_extend_7 : decode cX0_extend 7 = .ok (.aload_n 0, 1) := by decide +kernel
theorem dX0_extend_8 : decode cX0_extend 8 = .ok (.iload_n 1, 1) := by decide +kernel
theorem dX0_extend_9 : decode cX0_extend 9 = .ok (.iload_n 2, 1) := by decide +kernel
theorem dX0_extend_10 : decode cX0_extend 10 = .ok (.iload_n 3, 1) := by decide +kernel
theorem dX0_extend_11 : decode cX0_extend 11 = .ok (.invokevirtual 79, 3) := by decide +kernel
theorem dX0_extend_14 : decode cX0_extend 14 = .ok (.istore 7, 2) := by decide +kernel
theorem dX0_extend_16 : decode cX0_extend 16 = .ok (.aload_n 0, 1) := by decide +kernel
theorem dX0_extend_17 : decode cX0_extend 17 = .ok (.iload_n 1, 1) := by decide +kernel
theorem dX0_extend_18 : decode cX0_extend 18 = .ok (.iload_n 2, 1) := by decide +kernel
theorem dX0_extend_19 : decode cX0_extend 19 = .ok (.iload_n 3, 1) := by decide +kernel
theorem dX0_extend_20 : decode cX0_extend 20 = .ok (.invokevirtual 82, 3) := by decide +kernel
theorem dX0_extend_23 : decode cX0_extend 23 = .ok (.aload_n 0, 1) := by decide +kernel
theorem dX0_extend_24 : decode cX0_extend 24 = .ok (.getfield 31, 3) := by decide +kernel
theorem dX0_extend_27 : decode cX0_extend 27 = .ok (.iload 6, 2) := by decide +kernel
theorem dX0_extend_29 : decode cX0_extend 29 = .ok (.baload, 1) := by decide +kernel
theorem dX0_extend_30 : decode cX0_extend 30 = .ok (.ifCond .eq 18, 3) := by decide +kernel
theorem dX0_extend_33 : decode cX0_extend 33 = .ok (.aload_n 0, 1) := by decide +kernel
theorem dX0_extend_34 : decode cX0_extend 34 = .ok (.iload 6, 2) := by decide +kernel
theorem dX0_extend_36 : decode cX0_extend 36 = .ok (.iload_n 3, 1) := by decide +kernel
theorem dX0_extend_37 : decode cX0_extend 37 = .ok (.iload_n 2, 1) := by decide +kernel
theorem dX0_extend_38 : decode cX0_extend 38 = .ok (.iload 7, 2) := by decide +kernel
theorem dX0_extend_40 : decode cX0_extend 40 = .ok (.iload 4, 2) := by decide +kernel
theorem dX0_extend_42 : decode cX0_extend 42 = .ok (.iload 5, 2) := by decide +kernel
theorem dX0_extend_44 : decode cX0_extend 44 = .ok (.invokevirtual 86, 3) := by decide +kernel
theorem dX0_extend_47 : decode cX0_extend 47 = .ok (.return_, 1) := by decide +kernel
theorem dX0_extend_48 : decode cX0_extend 48 = .ok (.iconst 0, 1) := by decide +kernel
theorem dX0_extend_49 : decode cX0_extend 49 = .ok (.istore 8, 2) := by decide +kernel
theorem dX0_extend_51 : decode cX0_extend 51 = .ok (.iload 8, 2) := by decide +kernel
theorem dX0_extend_53 : decode cX0_extend 53 = .ok (.bipush 7, 2) := by decide +kernel
theorem dX0_extend_55 : decode cX0_extend 55 = .ok (.if_icmp .ge 111, 3) := by decide +kernel
theorem dX0_extend_58 : decode cX0_extend 58 = .ok (.iload_n 3, 1) := by decide +kernel
theorem dX0_extend_59 : decode cX0_extend 59 = .ok (.iload 8, 2) := by decide +kernel
theorem dX0_extend_61 : decode cX0_extend 61 = .ok (.iconst 3, 1) := by decide +kernel
theorem dX0_extend_62 : decode cX0_extend 62 = .ok (.iload_n 2, 1) := by decide +kernel
theorem dX0_extend_63 : decode cX0_extend 63 = .ok (.imul, 1) := by decide +kernel
theorem dX0_extend_64 : decode cX0_extend 64 = .ok (.ishl, 1) := by decide +kernel
theorem dX0_extend_65 : decode cX0_extend 65 = .ok (.ior, 1) := by decide +kernel
theorem dX0_extend_66 : decode cX0_extend 66 = .ok (.istore 9, 2) := by decide +kernel
theorem dX0_extend_68 : decode cX0_extend 68 = .ok (.iload 7, 2) := by decide +kernel
theorem dX0_extend_70 : decode cX0_extend 70 = .ok (.ifCond .eq 27, 3) := by decide +kernel
theorem dX0_extend_73 : decode cX0_extend 73 = .ok (.iload 8, 2) := by decide +kernel
theorem dX0_extend_75 : decode cX0_extend 75 = .ok (.iload 4, 2) := by decide +kernel
theorem dX0_extend_77 : decode cX0_extend 77 = .ok (.if_icmp .eq 20, 3) := by decide +kernel
theorem dX0_extend_80 : decode cX0_extend 80 = .ok (.aload_n 0, 1) := by decide +kernel
theorem dX0_extend_81 : decode cX0_extend 81 = .ok (.iload_n 1, 1) := by decide +kernel
theorem dX0_extend_82 : decode cX0_extend 82 = .ok (.iload_n 2, 1) := by decide +kernel
theorem dX0_extend_83 : decode cX0_extend 83 = .ok (.iconst 1, 1) := by decide +kernel
theorem dX0_extend_84 : decode cX0_extend 84 = .ok (.iadd, 1) := by decide +kernel
theorem dX0_extend_85 : decode cX0_extend 85 = .ok (.iload 9, 2) := by decide +kernel
theorem dX0_extend_87 : decode cX0_extend 87 = .ok (.invokevirtual 79, 3) := by decide +kernel
theorem dX0_extend_90 : decode cX0_extend 90 = .ok (.ifCond .eq 7, 3) := by decide +kernel
theorem dX0_extend_93 : decode cX0_extend 93 = .ok (.iconst 1, 1) := by decide +kernel
theorem dX0_extend_94 : decode cX0_extend 94 = .ok (.goto 4, 3) := by decide +kernel
theorem dX0_extend_97 : decode cX0_extend 97 = .ok (.iconst 0, 1) := by decide +kernel
theorem dX0_extend_98 : decode cX0_extend 98 = .ok (.istore 10, 2) := by decide +kernel
theorem dX0_extend_100 : decode cX0_extend 100 = .ok (.aload_n 0, 1) := by decide +kernel
theorem dX0_extend_101 : decode cX0_extend 101 = .ok (.iload 8, 2) := by decide +kernel
theorem dX0_extend_103 : decode cX0_extend 103 = .ok (.invokevirtual 90, 3) := by decide +kernel
theorem dX0_extend_106 : decode cX0_extend 106 = .ok (.ifCond .eq 19, 3) := by decide +kernel
theorem dX0_extend_109 : decode cX0_extend 109 = .ok (.iload 7, 2) := by decide +kernel
theorem dX0_extend_111 : decode cX0_extend 111 = .ok (.ifCond .eq 10, 3) := by decide +kernel
theorem dX0_extend_114 : decode cX0_extend 114 = .ok (.iload 8, 2) := by decide +kernel
theorem dX0_extend_116 : decode cX0_extend 116 = .ok (.iload 4, 2) := by decide +kernel
theorem dX0_extend_118 : decode cX0_extend 118 = .ok (.if_icmp .ne 7, 3) := by decide +kernel
theorem dX0_extend_121 : decode cX0_extend 121 = .ok (.iconst 1, 1) := by decide +kernel
theorem dX0_extend_122 : decode cX0_extend 122 = .ok (.goto 4, 3) := by decide +kernel
theorem dX0_extend_125 : decode cX0_extend 125 = .ok (.iconst 0, 1) := by decide +kernel
theorem dX0_extend_126 : decode cX0_extend 126 = .ok (.istore 11, 2) := by decide +kernel
theorem dX0_extend_128 : decode cX0_extend 128 = .ok (.iload 10, 2) := by decide +kernel
theorem dX0_extend_130 : decode cX0_extend 130 = .ok (.ifCond .ne 20, 3) := by decide +kernel
theorem dX0_extend_133 : decode cX0_extend 133 = .ok (.iload 11, 2) := by decide +kernel
theorem dX0_extend_135 : decode cX0_extend 135 = .ok (.ifCond .eq 25, 3) := by decide +kernel
theorem dX0_extend_138 : decode cX0_extend 138 = .ok (.aload_n 0, 1) := by decide +kernel
theorem dX0_extend_139 : decode cX0_extend 139 = .ok (.iload 6, 2) := by decide +kernel
theorem dX0_extend_141 : decode cX0_extend 141 = .ok (.iload 8, 2) := by decide +kernel
theorem dX0_extend_143 : decode cX0_extend 143 = .ok (.iconst 0, 1) := by decide +kernel
theorem dX0_extend_144 : decode cX0_extend 144 = .ok (.invokevirtual 63, 3) := by decide +kernel
theorem dX0_extend_147 : decode cX0_extend 147 = .ok (.ifCond .eq 13, 3) := by decide +kernel
theorem dX0_extend_150 : decode cX0_extend 150 = .ok (.aload_n 0, 1) := by decide +kernel
theorem dX0_extend_151 : decode cX0_extend 151 = .ok (.iload_n 1, 1) := by decide +kernel
theorem dX0_extend_152 : decode cX0_extend 152 = .ok (.iload_n 2, 1) := by decide +kernel
theorem dX0_extend_153 : decode cX0_extend 153 = .ok (.iconst 1, 1) := by decide +kernel
theorem dX0_extend_154 : decode cX0_extend 154 = .ok (.iadd, 1) := by decide +kernel
theorem dX0_extend_155 : decode cX0_extend 155 = .ok (.iload 9, 2) := by decide +kernel
theorem dX0_extend_157 : decode cX0_extend 157 = .ok (.invokevirtual 94, 3) := by decide +kernel
theorem dX0_extend_160 : decode cX0_extend 160 = .ok (.iinc 8 1, 3) := by decide +kernel
theorem dX0_extend_163 : decode cX0_extend 163 = .ok (.goto (-112), 3) := by decide +kernel
theorem dX0_extend_166 : decode cX0_extend 166 = .ok (.return_, 1) := by decide +kernel
end
section
set_option maxRecDepth 100000
abbrev cX0_wasIn : ByteArray := prog_1_method_6_code
def yX0_wasIn : MethodName := ⟨RX0, "wasIn", "(III)Z"⟩
theorem dX0_wasIn_0 : decode cX0_wasIn 0 = .ok (.iload_n 1, 1) := by decide +kernel
theorem dX0_wasIn_1 : decode cX0_wasIn 1 = .ok (.iload_n 2, 1) := by decide +kernel
theorem dX0_wasIn_2 : decode cX0_wasIn 2 = .ok (.iload_n 3, 1) := by decide +kernel
theorem dX0_wasIn_3 : decode cX0_wasIn 3 = .ok (.invokestatic 52, 3) := by decide +kernel
theorem dX0_wasIn_6 : decode cX0_wasIn 6 = .ok (.istore 4, 2) := by decide +kernel
theorem dX0_wasIn_8 : decode cX0_wasIn 8 = .ok (.aload_n 0, 1) := by decide +kernel
theorem dX0_wasIn_9 : decode cX0_wasIn 9 = .ok (.getfield 39, 3) := by decide +kernel
theorem dX0_wasIn_12 : decode cX0_wasIn 12 = .ok (.iload 4, 2) := by decide +kernel
theorem dX0_wasIn_14 : decode cX0_wasIn 14 = .ok (.laload, 1) := by decide +kernel
theorem dX0_wasIn_15 : decode cX0_wasIn 15 = .ok (.iload_n 3, 1) := by decide +kernel
theorem dX0_wasIn_16 : decode cX0_wasIn 16 = .ok (.bipush 63, 2) := by decide +kernel
theorem dX0_wasIn_18 : decode cX0_wasIn 18 = .ok (.iand, 1) := by decide +kernel
theorem dX0_wasIn_19 : decode cX0_wasIn 19 = .ok (.lushr, 1) := by decide +kernel
theorem dX0_wasIn_20 : decode cX0_wasIn 20 = .ok (.lconst 1, 1) := by decide +kernel
theorem dX0_wasIn_21 : decode cX0_wasIn 21 = .ok (.land, 1) := by decide +kernel
theorem dX0_wasIn_22 : decode cX0_wasIn 22 = .ok (.lconst 0, 1) := by decide +kernel
theorem dX0_wasIn_23 : decode cX0_wasIn 23 = .ok (.lcmp, 1) := by decide +kernel
theorem dX0_wasIn_24 : decode cX0_wasIn 24 = .ok (.ifCond .eq 7, 3) := by decide +kernel
theorem dX0_wasIn_27 : decode cX0_wasIn 27 = .ok (.iconst 1, 1) := by decide +kernel
theorem dX0_wasIn_28 : decode cX0_wasIn 28 = .ok (.goto 4, 3) := by decide +kernel
theorem dX0_wasIn_31 : decode cX0_wasIn 31 = .ok (.iconst 0, 1) := by decide +kernel
theorem dX0_wasIn_32 : decode cX0_wasIn 32 = .ok (.ireturn, 1) := by decide +kernel
abbrev cX0_bindAlong : ByteArray := prog_1_method_13_code
def yX0_bindAlong : MethodName := ⟨RX0, "bindAlong", "(III)V"⟩
theorem dX0_bindAlong_0 : decode cX0_bindAlong 0 = .ok (.iconst 0, 1) := by decide +kernel
theorem dX0_bindAlong_1 : decode cX0_bindAlong 1 = .ok (.istore 4, 2) := by decide +kernel
theorem dX0_bindAlong_3 : decode cX0_bindAlong 3 = .ok (.iload 4, 2) := by decide +kernel
theorem dX0_bindAlong_5 : decode cX0_bindAlong 5 = .ok (.iconst 3, 1) := by decide +kernel
theorem dX0_bindAlong_6 : decode cX0_bindAlong 6 = .ok (.if_icmp .ge 17, 3) := by decide +kernel
theorem dX0_bindAlong_9 : decode cX0_bindAlong 9 = .ok (.aload_n 0, 1) := by decide +kernel
theorem dX0_bindAlong_10 : decode cX0_bindAlong 10 = .ok (.getfield 42, 3) := by decide +kernel
theorem dX0_bindAlong_13 : decode cX0_bindAlong 13 = .ok (.iload 4, 2) := by decide +kernel
theorem dX0_bindAlong_15 : decode cX0_bindAlong 15 = .ok (.iconst 4, 1) := by decide +kernel
theorem dX0_bindAlong_16 : decode cX0_bindAlong 16 = .ok (.bastore, 1) := by decide +kernel
theorem dX0_bindAlong_17 : decode cX0_bindAlong 17 = .ok (.iinc 4 1, 3) := by decide +kernel
theorem dX0_bindAlong_20 : decode cX0_bindAlong 20 = .ok (.goto (-17), 3) := by decide +kernel
theorem dX0_bindAlong_23 : decode cX0_bindAlong 23 = .ok (.iconst 0, 1) := by decide +kernel
theorem dX0_bindAlong_24 : decode cX0_bindAlong 24 = .ok (.istore 4, 2) := by decide +kernel
theorem dX0_bindAlong_26 : decode cX0_bindAlong 26 = .ok (.iload 4, 2) := by decide +kernel
theorem dX0_bindAlong_28 : decode cX0_bindAlong 28 = .ok (.iload_n 2, 1) := by decide +kernel
theorem dX0_bindAlong_29 : decode cX0_bindAlong 29 = .ok (.if_icmp .ge 41, 3) := by decide +kernel
theorem dX0_bindAlong_32 : decode cX0_bindAlong 32 = .ok (.iload_n 3, 1) := by decide +kernel
theorem dX0_bindAlong_33 : decode cX0_bindAlong 33 = .ok (.iconst 3, 1) := by decide +kernel
theorem dX0_bindAlong_34 : decode cX0_bindAlong 34 = .ok (.iload 4, 2) := by decide +kernel
theorem dX0_bindAlong_36 : decode cX0_bindAlong 36 = .ok (.imul, 1) := by decide +kernel
theorem dX0_bindAlong_37 : decode cX0_bindAlong 37 = .ok (.ishr, 1) := by decide +kernel
theorem dX0_bindAlong_38 : decode cX0_bindAlong 38 = .ok (.bipush 7, 2) := by decide +kernel
theorem dX0_bindAlong_40 : decode cX0_bindAlong 40 = .ok (.iand, 1) := by decide +kernel
theorem dX0_bindAlong_41 : decode cX0_bindAlong 41 = .ok (.istore 5, 2) := by decide +kernel
theorem dX0_bindAlong_43 : decode cX0_bindAlong 43 = .ok (.iload 5, 2) := by decide +kernel
theorem dX0_bindAlong_45 : decode cX0_bindAlong 45 = .ok (.bipush 7, 2) := by decide +kernel
theorem dX0_bindAlong_47 : decode cX0_bindAlong 47 = .ok (.if_icmp .eq 17, 3) := by decide +kernel
theorem dX0_bindAlong_50 : decode cX0_bindAlong 50 = .ok (.aload_n 0, 1) := by decide +kernel
theorem dX0_bindAlong_51 : decode cX0_bindAlong 51 = .ok (.iload_n 1, 1) := by decide +kernel
theorem dX0_bindAlong_52 : decode cX0_bindAlong 52 = .ok (.iconst 3, 1) := by decide +kernel
theorem dX0_bindAlong_53 : decode cX0_bindAlong 53 = .ok (.imul, 1) := by decide +kernel
theorem dX0_bindAlong_54 : decode cX0_bindAlong 54 = .ok (.iload 4, 2) := by decide +kernel
theorem dX0_bindAlong_56 : decode cX0_bindAlong 56 = .ok (.iadd, 1) := by decide +kernel
theorem dX0_bindAlong_57 : decode cX0_bindAlong 57 = .ok (.iload 5, 2) := by decide +kernel
theorem dX0_bindAlong_59 : decode cX0_bindAlong 59 = .ok (.iconst 1, 1) := by decide +kernel
theorem dX0_bindAlong_60 : decode cX0_bindAlong 60 = .ok (.invokevirtual 63, 3) := by decide +kernel
theorem dX0_bindAlong_63 : decode cX0_bindAlong 63 = .ok (.pop, 1) := by decide +kernel
theorem dX0_bindAlong_64 : decode cX0_bindAlong 64 = .ok (.iinc 4 1, 3) := by decide +kernel
theorem dX0_bindAlong_67 : decode cX0_bindAlong 67 = .ok (.goto (-41), 3) := by decide +kernel
theorem dX0_bindAlong_70 : decode cX0_bindAlong 70 = .ok (.return_, 1) := by decide +kernel
abbrev cX0_fits : ByteArray := prog_1_method_12_code
def yX0_fits : MethodName := ⟨RX0, "fits", "(IIZ)Z"⟩
theorem dX0_fits_0 : decode cX0_fits 0 = .ok (.aload_n 0, 1) := by decide +kernel
theorem dX0_fits_1 : decode cX0_fits 1 = .ok (.getfield 7, 3) := by decide +kernel
theorem dX0_fits_4 : decode cX0_fits 4 = .ok (.iload_n 2, 1) := by decide +kernel
theorem dX0_fits_5 : decode cX0_fits 5 = .ok (.baload, 1) := by decide +kernel
theorem dX0_fits_6 : decode cX0_fits 6 = .ok (.aload_n 0, 1) := by decide +kernel
theorem dX0_fits_7 : decode cX0_fits 7 = .ok (.getfield 22, 3) := by decide +kernel
theorem dX0_fits_10 : decode cX0_fits 10 = .ok (.iload_n 1, 1) := by decide +kernel
theorem dX0_fits_11 : decode cX0_fits 11 = .ok (.baload, 1) := by decide +kernel
theorem dX0_fits_12 : decode cX0_fits 12 = .ok (.if_icmp .eq 5, 3) := by decide +kernel
theorem dX0_fits_15 : decode cX0_fits 15 = .ok (.iconst 0, 1) := by decide +kernel
theorem dX0_fits_16 : decode cX0_fits 16 = .ok (.ireturn, 1) := by decide +kernel
theorem dX0_fits_17 : decode cX0_fits 17 = .ok (.iconst 0, 1) := by decide +kernel
theorem dX0_fits_18 : decode cX0_fits 18 = .ok (.istore 4, 2) := by decide +kernel
theorem dX0_fits_20 : decode cX0_fits 20 = .ok (.iload 4, 2) := by decide +kernel
theorem dX0_fits_22 : decode cX0_fits 22 = .ok (.iconst 3, 1) := by decide +kernel
theorem dX0_fits_23 : decode cX0_fits 23 = .ok (.if_icmp .ge 23, 3) := by decide +kernel
theorem dX0_fits_26 : decode cX0_fits 26 = .ok (.aload_n 0, 1) := by decide +kernel
theorem dX0_fits_27 : decode cX0_fits 27 = .ok (.getfield 45, 3) := by decide +kernel
theorem dX0_fits_30 : decode cX0_fits 30 = .ok (.iload 4, 2) := by decide +kernel
theorem dX0_fits_32 : decode cX0_fits 32 = .ok (.aload_n 0, 1) := by decide +kernel
theorem dX0_fits_33 : decode cX0_fits 33 = .ok (.getfield 42, 3) := by decide +kernel
theorem dX0_fits_36 : decode cX0_fits 36 = .ok (.iload 4, 2) := by decide +kernel
theorem dX0_fits_38 : decode cX0_fits 38 = .ok (.baload, 1) := by decide +kernel
theorem dX0_fits_39 : decode cX0_fits 39 = .ok (.bastore, 1) := by decide +kernel
theorem dX0_fits_40 : decode cX0_fits 40 = .ok (.iinc 4 1, 3) := by decide +kernel
theorem dX0_fits_43 : decode cX0_fits 43 = .ok (.goto (-23), 3) := by decide +kernel
theorem dX0_fits_46 : decode cX0_fits 46 = .ok (.aload_n 0, 1) := by decide +kernel
theorem dX0_fits_47 : decode cX0_fits 47 = .ok (.aload_n 0, 1) := by decide +kernel
theorem dX0_fits_48 : decode cX0_fits 48 = .ok (.getfield 25, 3) := by decide +kernel
theorem dX0_fits_51 : decode cX0_fits 51 = .ok (.iload_n 1, 1) := by decide +kernel
theorem dX0_fits_52 : decode cX0_fits 52 = .ok (.baload, 1) := by decide +kernel
theorem dX0_fits_53 : decode cX0_fits 53 = .ok (.aload_n 0, 1) := by decide +kernel
theorem dX0_fits_54 : decode cX0_fits 54 = .ok (.getfield 13, 3) := by decide +kernel
theorem dX0_fits_57 : decode cX0_fits 57 = .ok (.iload_n 2, 1) := by decide +kernel
theorem dX0_fits_58 : decode cX0_fits 58 = .ok (.baload, 1) := by decide +kernel
theorem dX0_fits_59 : decode cX0_fits 59 = .ok (.invokevirtual 60, 3) := by decide +kernel
theorem dX0_fits_62 : decode cX0_fits 62 = .ok (.ifCond .eq 26, 3) := by decide +kernel
theorem dX0_fits_65 : decode cX0_fits 65 = .ok (.aload_n 0, 1) := by decide +kernel
theorem dX0_fits_66 : decode cX0_fits 66 = .ok (.aload_n 0, 1) := by decide +kernel
theorem dX0_fits_67 : decode cX0_fits 67 = .ok (.getfield 28, 3) := by decide +kernel
theorem dX0_fits_70 : decode cX0_fits 70 = .ok (.iload_n 1, 1) := by decide +kernel
theorem dX0_fits_71 : decode cX0_fits 71 = .ok (.baload, 1) := by decide +kernel
theorem dX0_fits_72 : decode cX0_fits 72 = .ok (.aload_n 0, 1) := by decide +kernel
theorem dX0_fits_73 : decode cX0_fits 73 = .ok (.getfield 16, 3) := by decide +kernel
theorem dX0_fits_76 : decode cX0_fits 76 = .ok (.iload_n 2, 1) := by decide +kernel
theorem dX0_fits_77 : decode cX0_fits 77 = .ok (.baload, 1) := by decide +kernel
theorem dX0_fits_78 : decode cX0_fits 78 = .ok (.invokevirtual 60, 3) := by decide +kernel
theorem dX0_fits_81 : decode cX0_fits 81 = .ok (.ifCond .eq 7, 3) := by decide +kernel
theorem dX0_fits_84 : decode cX0_fits 84 = .ok (.iconst 1, 1) := by decide +kernel
theorem dX0_fits_85 : decode cX0_fits 85 = .ok (.goto 4, 3) := by decide +kernel
theorem dX0_fits_88 : decode cX0_fits 88 = .ok (.iconst 0, 1) := by decide +kernel
theorem dX0_fits_89 : decode cX0_fits 89 = .ok (.istore 4, 2) := by decide +kernel
theorem dX0_fits_91 : decode cX0_fits 91 = .ok (.iconst 0, 1) := by decide +kernel
theorem dX0_fits_92 : decode cX0_fits 92 = .ok (.istore 5, 2) := by decide +kernel
theorem dX0_fits_94 : decode cX0_fits 94 = .ok (.iload 5, 2) := by decide +kernel
theorem dX0_fits_96 : decode cX0_fits 96 = .ok (.iconst 3, 1) := by decide +kernel
theorem dX0_fits_97 : decode cX0_fits 97 = .ok (.if_icmp .ge 32, 3) := by decide +kernel
theorem dX0_fits_100 : decode cX0_fits 100 = .ok (.iload 4, 2) := by decide +kernel
theorem dX0_fits_102 : decode cX0_fits 102 = .ok (.ifCond .eq 27, 3) := by decide +kernel
theorem dX0_fits_105 : decode cX0_fits 105 = .ok (.iload_n 3, 1) := by decide +kernel
theorem dX0_fits_106 : decode cX0_fits 106 = .ok (.ifCond .eq 23, 3) := by decide +kernel
theorem dX0_fits_109 : decode cX0_fits 109 = .ok (.aload_n 0, 1) := by decide +kernel
theorem dX0_fits_110 : decode cX0_fits 110 = .ok (.getfield 42, 3) := by decide +kernel
theorem dX0_fits_113 : decode cX0_fits 113 = .ok (.iload 5, 2) := by decide +kernel
theorem dX0_fits_115 : decode cX0_fits 115 = .ok (.aload_n 0, 1) := by decide +kernel
theorem dX0_fits_116 : decode cX0_fits 116 = .ok (.getfield 45, 3) := by decide +kernel
theorem dX0_fits_119 : decode cX0_fits 119 = .ok (.iload 5, 2) := by decide +kernel
theorem dX0_fits_121 : decode cX0_fits 121 = .ok (.baload, 1) := by decide +kernel
theorem dX0_fits_122 : decode cX0_fits 122 = .ok (.bastore, 1) := by decide +kernel
theorem dX0_fits_123 : decode cX0_fits 123 = .ok (.iinc 5 1, 3) := by decide +kernel
theorem dX0_fits_126 : decode cX0_fits 126 = .ok (.goto (-32), 3) := by decide +kernel
theorem dX0_fits_129 : decode cX0_fits 129 = .ok (.iload 4, 2) := by decide +kernel
theorem dX0_fits_131 : decode cX0_fits 131 = .ok (.ireturn, 1) := by decide +kernel
abbrev cX0_meets : ByteArray := prog_1_method_11_code
def yX0_meets : MethodName := ⟨RX0, "meets", "(II)Z"⟩
theorem dX0_meets_0 : decode cX0_meets 0 = .ok (.iload_n 1, 1) := by decide +kernel
theorem dX0_meets_1 : decode cX0_meets 1 = .ok (.iconst 4, 1) := by decide +kernel
theorem dX0_meets_2 : decode cX0_meets 2 = .ok (.if_icmp .lt 9, 3) := by decide +kernel
theorem dX0_meets_5 : decode cX0_meets 5 = .ok (.iload_n 1, 1) := by decide +kernel
theorem dX0_meets_6 : decode cX0_meets 6 = .ok (.bipush 7, 2) := by decide +kernel
theorem dX0_meets_8 : decode cX0_meets 8 = .ok (.if_icmp .ne 20, 3) := by decide +kernel
theorem dX0_meets_11 : decode cX0_meets 11 = .ok (.iload_n 1, 1) := by decide +kernel
theorem dX0_meets_12 : decode cX0_meets 12 = .ok (.bipush 7, 2) := by decide +kernel
theorem dX0_meets_14 : decode cX0_meets 14 = .ok (.if_icmp .eq 8, 3) := by decide +kernel
theorem dX0_meets_17 : decode cX0_meets 17 = .ok (.iload_n 1, 1) := by decide +kernel
theorem dX0_meets_18 : decode cX0_meets 18 = .ok (.iload_n 2, 1) := by decide +kernel
theorem dX0_meets_19 : decode cX0_meets 19 = .ok (.if_icmp .ne 7, 3) := by decide +kernel
theorem dX0_meets_22 : decode cX0_meets 22 = .ok (.iconst 1, 1) := by decide +kernel
theorem dX0_meets_23 : decode cX0_meets 23 = .ok (.goto 4, 3) := by decide +kernel
theorem dX0_meets_26 : decode cX0_meets 26 = .ok (.iconst 0, 1) := by decide +kernel
theorem dX0_meets_27 : decode cX0_meets 27 = .ok (.ireturn, 1) := by decide +kernel
theorem dX0_meets_28 : decode cX0_meets 28 = .ok (.iload_n 1, 1) := by decide +kernel
theorem dX0_meets_29 : decode cX0_meets 29 = .ok (.iconst 4, 1) := by decide +kernel
theorem dX0_meets_30 : decode cX0_meets 30 = .ok (.isub, 1) := by decide +kernel
theorem dX0_meets_31 : decode cX0_meets 31 = .ok (.istore_n 3, 1) := by decide +kernel
theorem dX0_meets_32 : decode cX0_meets 32 = .ok (.aload_n 0, 1) := by decide +kernel
theorem dX0_meets_33 : decode cX0_meets 33 = .ok (.getfield 45, 3) := by decide +kernel
theorem dX0_meets_36 : decode cX0_meets 36 = .ok (.iload_n 3, 1) := by decide +kernel
theorem dX0_meets_37 : decode cX0_meets 37 = .ok (.baload, 1) := by decide +kernel
theorem dX0_meets_38 : decode cX0_meets 38 = .ok (.iconst 4, 1) := by decide +kernel
theorem dX0_meets_39 : decode cX0_meets 39 = .ok (.if_icmp .ne 13, 3) := by decide +kernel
theorem dX0_meets_42 : decode cX0_meets 42 = .ok (.aload_n 0, 1) := by decide +kernel
theorem dX0_meets_43 : decode cX0_meets 43 = .ok (.getfield 45, 3) := by decide +kernel
theorem dX0_meets_46 : decode cX0_meets 46 = .ok (.iload_n 3, 1) := by decide +kernel
theorem dX0_meets_47 : decode cX0_meets 47 = .ok (.iload_n 2, 1) := by decide +kernel
theorem dX0_meets_48 : decode cX0_meets 48 = .ok (.i2b, 1) := by decide +kernel
theorem dX0_meets_49 : decode cX0_meets 49 = .ok (.bastore, 1) := by decide +kernel
theorem dX0_meets_50 : decode cX0_meets 50 = .ok (.iconst 1, 1) := by decide +kernel
theorem dX0_meets_51 : decode cX0_meets 51 = .ok (.ireturn, 1) := by decide +kernel
theorem dX0_meets_52 : decode cX0_meets 52 = .ok (.aload_n 0, 1) := by decide +kernel
theorem dX0_meets_53 : decode cX0_meets 53 = .ok (.getfield 45, 3) := by decide +kernel
theorem dX0_meets_56 : decode cX0_meets 56 = .ok (.iload_n 3, 1) := by decide +kernel
theorem dX0_meets_57 : decode cX0_meets 57 = .ok (.baload, 1) := by decide +kernel
theorem dX0_meets_58 : decode cX0_meets 58 = .ok (.iload_n 2, 1) := by decide +kernel
theorem dX0_meets_59 : decode cX0_meets 59 = .ok (.if_icmp .ne 7, 3) := by decide +kernel
theorem dX0_meets_62 : decode cX0_meets 62 = .ok (.iconst 1, 1) := by decide +kernel
theorem dX0_meets_63 : decode cX0_meets 63 = .ok (.goto 4, 3) := by decide +kernel
theorem dX0_meets_66 : decode cX0_meets 66 = .ok (.iconst 0, 1) := by decide +kernel
theorem dX0_meets_67 : decode cX0_meets 67 = .ok (.ireturn, 1) := by decide +kernel
abbrev cX0_extendNegated : ByteArray := prog_1_method_16_code
def yX0_extendNegated : MethodName := ⟨RX0, "extendNegated", "(IIIZIZ)V"⟩
theorem dX0_extendNegated_0 : decode cX0_extendNegated 0 = .ok (.iload_n 1, 1) := by decide +kernel
theorem dX0_extendNegated_1 : decode cX0_extendNegated 1 = .ok (.iconst 3, 1) := by decide +kernel
theorem dX0_extendNegated_2 : decode cX0_extendNegated 2 = .ok (.idiv, 1) := by decide +kernel
theorem dX0_extendNegated_3 : decode cX0_extendNegated 3 = .ok (.istore 7, 2) := by decide +kernel
theorem dX0_extendNegated_5 : decode cX0_extendNegated 5 = .ok (.iload_n 2, 1) := by decide +kernel
theorem dX0_extendNegated_6 : decode cX0_extendNegated 6 = .ok (.bipush 7, 2) := by decide +kernel
theorem dX0_extendNegated_8 : decode cX0_extendNegated 8 = .ok (.iconst 3, 1) := by decide +kernel
theorem dX0_extendNegated_9 : decode cX0_extendNegated 9 = .ok (.iload_n 3, 1) := by decide +kernel
theorem dX0_extendNegated_10 : decode cX0_extendNegated 10 = .ok (.imul, 1) := by decide +kernel
theorem dX0_extendNegated_11 : decode cX0_extendNegated 11 = .ok (.ishl, 1) := by decide +kernel
theorem dX0_extendNegated_12 : decode cX0_extendNegated 12 = .ok (.ior, 1) := by decide +kernel
theorem dX0_extendNegated_13 : decode cX0_extendNegated 13 = .ok (.istore 8, 2) := by decide +kernel
theorem dX0_extendNegated_15 : decode cX0_extendNegated 15 = .ok (.iload 4, 2) := by decide +kernel
theorem dX0_extendNegated_17 : decode cX0_extendNegated 17 = .ok (.ifCond .eq 21, 3) := by decide +kernel
theorem dX0_extendNegated_20 : decode cX0_extendNegated 20 = .ok (.aload_n 0, 1) := by decide +kernel
theorem dX0_extendNegated_21 : decode cX0_extendNegated 21 = .ok (.iload 7, 2) := by decide +kernel
theorem dX0_extendNegated_23 : decode cX0_extendNegated 23 = .ok (.iload_n 3, 1) := by decide +kernel
theorem dX0_extendNegated_24 : decode cX0_extendNegated 24 = .ok (.iconst 1, 1) := by decide +kernel
theorem dX0_extendNegated_25 : decode cX0_extendNegated 25 = .ok (.iadd, 1) := by decide +kernel
theorem dX0_extendNegated_26 : decode cX0_extendNegated 26 = .ok (.iload 8, 2) := by decide +kernel
theorem dX0_extendNegated_28 : decode cX0_extendNegated 28 = .ok (.invokevirtual 79, 3) := by decide +kernel
theorem dX0_extendNegated_31 : decode cX0_extendNegated 31 = .ok (.ifCond .eq 7, 3) := by decide +kernel
theorem dX0_extendNegated_34 : decode cX0_extendNegated 34 = .ok (.iconst 1, 1) := by decide +kernel
theorem dX0_extendNegated_35 : decode cX0_extendNegated 35 = .ok (.goto 4, 3) := by decide +kernel
theorem dX0_extendNegated_38 : decode cX0_extendNegated 38 = .ok (.iconst 0, 1) := by decide +kernel
theorem dX0_extendNegated_39 : decode cX0_extendNegated 39 = .ok (.istore 9, 2) := by decide +kernel
theorem dX0_extendNegated_41 : decode cX0_extendNegated 41 = .ok (.iload 4, 2) := by decide +kernel
theorem dX0_extendNegated_43 : decode cX0_extendNegated 43 = .ok (.ifCond .eq 21, 3) := by decide +kernel
theorem dX0_extendNegated_46 : decode cX0_extendNegated 46 = .ok (.aload_n 0, 1) := by decide +kernel
theorem dX0_extendNegated_47 : decode cX0_extendNegated 47 = .ok (.iload_n 1, 1) := by decide +kernel
theorem dX0_extendNegated_48 : decode cX0_extendNegated 48 = .ok (.iload 5, 2) := by decide +kernel
theorem dX0_extendNegated_50 : decode cX0_extendNegated 50 = .ok (.iconst 0, 1) := by decide +kernel
theorem dX0_extendNegated_51 : decode cX0_extendNegated 51 = .ok (.invokevirtual 63, 3) := by decide +kernel
theorem dX0_extendNegated_54 : decode cX0_extendNegated 54 = .ok (.ifCond .ne 10, 3) := by decide +kernel
theorem dX0_extendNegated_57 : decode cX0_extendNegated 57 = .ok (.iload 9, 2) := by decide +kernel
theorem dX0_extendNegated_59 : decode cX0_extendNegated 59 = .ok (.istore 10, 2) := by decide +kernel
theorem dX0_extendNegated_61 : decode cX0_extendNegated 61 = .ok (.goto 34, 3) := by decide +kernel
theorem dX0_extendNegated_64 : decode cX0_extendNegated 64 = .ok (.iload 4, 2) := by decide +kernel
theorem dX0_extendNegated_66 : decode cX0_extendNegated 66 = .ok (.ifCond .eq 14, 3) := by decide +kernel
theorem dX0_extendNegated_69 : decode cX0_extendNegated 69 = .ok (.iload 6, 2) := by decide +kernel
theorem dX0_extendNegated_71 : decode cX0_extendNegated 71 = .ok (.ifCond .eq 9, 3) := by decide +kernel
theorem dX0_extendNegated_74 : decode cX0_extendNegated 74 = .ok (.iconst 0, 1) := by decide +kernel
theorem dX0_extendNegated_75 : decode cX0_extendNegated 75 = .ok (.istore 10, 2) := by decide +kernel
theorem dX0_extendNegated_77 : decode cX0_extendNegated 77 = .ok (.goto 18, 3) := by decide +kernel
theorem dX0_extendNegated_80 : decode cX0_extendNegated 80 = .ok (.aload_n 0, 1) := by decide +kernel
theorem dX0_extendNegated_81 : decode cX0_extendNegated 81 = .ok (.iload_n 1, 1) := by decide +kernel
theorem dX0_extendNegated_82 : decode cX0_extendNegated 82 = .ok (.invokevirtual 97, 3) := by decide +kernel
theorem dX0_extendNegated_85 : decode cX0_extendNegated 85 = .ok (.ifCond .ne 7, 3) := by decide +kernel
theorem dX0_extendNegated_88 : decode cX0_extendNegated 88 = .ok (.iconst 1, 1) := by decide +kernel
theorem dX0_extendNegated_89 : decode cX0_extendNegated 89 = .ok (.goto 4, 3) := by decide +kernel
theorem dX0_extendNegated_92 : decode cX0_extendNegated 92 = .ok (.iconst 0, 1) := by decide +kernel
theorem dX0_extendNegated_93 : decode cX0_extendNegated 93 = .ok (.istore 10, 2) := by decide +kernel
theorem dX0_extendNegated_95 : decode cX0_extendNegated 95 = .ok (.iload 10, 2) := by decide +kernel
theorem dX0_extendNegated_97 : decode cX0_extendNegated 97 = .ok (.ifCond .eq 14, 3) := by decide +kernel
theorem dX0_extendNegated_100 : decode cX0_extendNegated 100 = .ok (.aload_n 0, 1) := by decide +kernel
theorem dX0_extendNegated_101 : decode cX0_extendNegated 101 = .ok (.iload 7, 2) := by decide +kernel
theorem dX0_extendNegated_103 : decode cX0_extendNegated 103 = .ok (.iload_n 3, 1) := by decide +kernel
theorem dX0_extendNegated_104 : decode cX0_extendNegated 104 = .ok (.iconst 1, 1) := by decide +kernel
theorem dX0_extendNegated_105 : decode cX0_extendNegated 105 = .ok (.iadd, 1) := by decide +kernel
theorem dX0_extendNegated_106 : decode cX0_extendNegated 106 = .ok (.iload 8, 2) := by decide +kernel
theorem dX0_extendNegated_108 : decode cX0_extendNegated 108 = .ok (.invokevirtual 94, 3) := by decide +kernel
theorem dX0_extendNegated_111 : decode cX0_extendNegated 111 = .ok (.return_, 1) := by decide +kernel
abbrev cX0_anyFits : ByteArray := prog_1_method_17_code
def yX0_anyFits : MethodName := ⟨RX0, "anyFits", "(I)Z"⟩
theorem dX0_anyFits_0 : decode cX0_anyFits 0 = .ok (.iconst 0, 1) := by decide +kernel
theorem dX0_anyFits_1 : decode cX0_anyFits 1 = .ok (.istore_n 2, 1) := by decide +kernel
theorem dX0_anyFits_2 : decode cX0_anyFits 2 = .ok (.iload_n 2, 1) := by decide +kernel
theorem dX0_anyFits_3 : decode cX0_anyFits 3 = .ok (.bipush 7, 2) := by decide +kernel
theorem dX0_anyFits_5 : decode cX0_anyFits 5 = .ok (.if_icmp .ge 29, 3) := by decide +kernel
theorem dX0_anyFits_8 : decode cX0_anyFits 8 = .ok (.aload_n 0, 1) := by decide +kernel
theorem dX0_anyFits_9 : decode cX0_anyFits 9 = .ok (.iload_n 2, 1) := by decide +kernel
theorem dX0_anyFits_10 : decode cX0_anyFits 10 = .ok (.invokevirtual 90, 3) := by decide +kernel
theorem dX0_anyFits_13 : decode cX0_anyFits 13 = .ok (.ifCond .eq 15, 3) := by decide +kernel
theorem dX0_anyFits_16 : decode cX0_anyFits 16 = .ok (.aload_n 0, 1) := by decide +kernel
theorem dX0_anyFits_17 : decode cX0_anyFits 17 = .ok (.iload_n 1, 1) := by decide +kernel
theorem dX0_anyFits_18 : decode cX0_anyFits 18 = .ok (.iload_n 2, 1) := by decide +kernel
theorem dX0_anyFits_19 : decode cX0_anyFits 19 = .ok (.iconst 0, 1) := by decide +kernel
theorem dX0_anyFits_20 : decode cX0_anyFits 20 = .ok (.invokevirtual 63, 3) := by decide +kernel
theorem dX0_anyFits_23 : decode cX0_anyFits 23 = .ok (.ifCond .eq 5, 3) := by decide +kernel
theorem dX0_anyFits_26 : decode cX0_anyFits 26 = .ok (.iconst 1, 1) := by decide +kernel
theorem dX0_anyFits_27 : decode cX0_anyFits 27 = .ok (.ireturn, 1) := by decide +kernel
theorem dX0_anyFits_28 : decode cX0_anyFits 28 = .ok (.iinc 2 1, 3) := by decide +kernel
theorem dX0_anyFits_31 : decode cX0_anyFits 31 = .ok (.goto (-29), 3) := by decide +kernel
theorem dX0_anyFits_34 : decode cX0_anyFits 34 = .ok (.iconst 0, 1) := by decide +kernel
theorem dX0_anyFits_35 : decode cX0_anyFits 35 = .ok (.ireturn, 1) := by decide +kernel
abbrev cX0_has : ByteArray := prog_1_method_3_code
def yX0_has : MethodName := ⟨RX0, "has", "(I)Z"⟩
theorem dX0_has_0 : decode cX0_has 0 = .ok (.iload_n 1, 1) := by decide +kernel
theorem dX0_has_1 : decode cX0_has 1 = .ok (.ifCond .lt 24, 3) := by decide +kernel
theorem dX0_has_4 : decode cX0_has 4 = .ok (.iload_n 1, 1) := by decide +kernel
theorem dX0_has_5 : decode cX0_has 5 = .ok (.bipush 7, 2) := by decide +kernel
theorem dX0_has_7 : decode cX0_has 7 = .ok (.if_icmp .ge 18, 3) := by decide +kernel
theorem dX0_has_10 : decode cX0_has 10 = .ok (.aload_n 0, 1) := by decide +kernel
theorem dX0_has_11 : decode cX0_has 11 = .ok (.getfield 48, 3) := by decide +kernel
theorem dX0_has_14 : decode cX0_has 14 = .ok (.iload_n 1, 1) := by decide +kernel
theorem dX0_has_15 : decode cX0_has 15 = .ok (.ishr, 1) := by decide +kernel
theorem dX0_has_16 : decode cX0_has 16 = .ok (.iconst 1, 1) := by decide +kernel
theorem dX0_has_17 : decode cX0_has 17 = .ok (.iand, 1) := by decide +kernel
theorem dX0_has_18 : decode cX0_has 18 = .ok (.ifCond .eq 7, 3) := by decide +kernel
theorem dX0_has_21 : decode cX0_has 21 = .ok (.iconst 1, 1) := by decide +kernel
theorem dX0_has_22 : decode cX0_has 22 = .ok (.goto 4, 3) := by decide +kernel
theorem dX0_has_25 : decode cX0_has 25 = .ok (.iconst 0, 1) := by decide +kernel
theorem dX0_has_26 : decode cX0_has 26 = .ok (.ireturn, 1) := by decide +kernel
abbrev cX0_put : ByteArray := prog_1_method_7_code
def yX0_put : MethodName := ⟨RX0, "put", "(III)V"⟩
theorem dX0_put_0 : decode cX0_put 0 = .ok (.iload_n 1, 1) := by decide +kernel
theorem dX0_put_1 : decode cX0_put 1 = .ok (.iload_n 2, 1) := by decide +kernel
theorem dX0_put_2 : decode cX0_put 2 = .ok (.iload_n 3, 1) := by decide +kernel
theorem dX0_put_3 : decode cX0_put 3 = .ok (.invokestatic 52, 3) := by decide +kernel
theorem dX0_put_6 : decode cX0_put 6 = .ok (.istore 4, 2) := by decide +kernel
theorem dX0_put_8 : decode cX0_put 8 = .ok (.aload_n 0, 1) := by decide +kernel
theorem dX0_put_9 : decode cX0_put 9 = .ok (.getfield 35, 3) := by decide +kernel
theorem dX0_put_12 : decode cX0_put 12 = .ok (.iload 4, 2) := by decide +kernel
theorem dX0_put_14 : decode cX0_put 14 = .ok (.dup2, 1) := by decide +kernel
theorem dX0_put_15 : decode cX0_put 15 = .ok (.laload, 1) := by decide +kernel
theorem dX0_put_16 : decode cX0_put 16 = .ok (.lconst 1, 1) := by decide +kernel
theorem dX0_put_17 : decode cX0_put 17 = .ok (.iload_n 3, 1) := by decide +kernel
theorem dX0_put_18 : decode cX0_put 18 = .ok (.bipush 63, 2) := by decide +kernel
theorem dX0_put_20 : decode cX0_put 20 = .ok (.iand, 1) := by decide +kernel
theorem dX0_put_21 : decode cX0_put 21 = .ok (.lshl, 1) := by decide +kernel
theorem dX0_put_22 : decode cX0_put 22 = .ok (.lor, 1) := by decide +kernel
theorem dX0_put_23 : decode cX0_put 23 = .ok (.lastore, 1) := by decide +kernel
theorem dX0_put_24 : decode cX0_put 24 = .ok (.return_, 1) := by decide +kernel
abbrev cX0_drop : ByteArray := prog_1_method_19_code
def yX0_drop : MethodName := ⟨RX0, "drop", "(I)I"⟩
theorem dX0_drop_0 : decode cX0_drop 0 = .ok (.iload_n 1, 1) := by decide +kernel
theorem dX0_drop_1 : decode cX0_drop 1 = .ok (.invokestatic 100, 3) := by decide +kernel
theorem dX0_drop_4 : decode cX0_drop 4 = .ok (.ifCond .eq 12, 3) := by decide +kernel
theorem dX0_drop_7 : decode cX0_drop 7 = .ok (.aload_n 0, 1) := by decide +kernel
theorem dX0_drop_8 : decode cX0_drop 8 = .ok (.getfield 19, 3) := by decide +kernel
theorem dX0_drop_11 : decode cX0_drop 11 = .ok (.iload_n 1, 1) := by decide +kernel
theorem dX0_drop_12 : decode cX0_drop 12 = .ok (.baload, 1) := by decide +kernel
theorem dX0_drop_13 : decode cX0_drop 13 = .ok (.ifCond .ne 5, 3) := by decide +kernel
theorem dX0_drop_16 : decode cX0_drop 16 = .ok (.iconst (-1), 1) := by decide +kernel
theorem dX0_drop_17 : decode cX0_drop 17 = .ok (.ireturn, 1) := by decide +kernel
theorem dX0_drop_18 : decode cX0_drop 18 = .ok (.aload_n 0, 1) := by decide +kernel
theorem dX0_drop_19 : decode cX0_drop 19 = .ok (.getfield 19, 3) := by decide +kernel
theorem dX0_drop_22 : decode cX0_drop 22 = .ok (.iload_n 1, 1) := by decide +kernel
theorem dX0_drop_23 : decode cX0_drop 23 = .ok (.dup2, 1) := by decide +kernel
theorem dX0_drop_24 : decode cX0_drop 24 = .ok (.baload, 1) := by decide +kernel
theorem dX0_drop_25 : decode cX0_drop 25 = .ok (.iconst 1, 1) := by decide +kernel
theorem dX0_drop_26 : decode cX0_drop 26 = .ok (.isub, 1) := by decide +kernel
theorem dX0_drop_27 : decode cX0_drop 27 = .ok (.i2b, 1) := by decide +kernel
theorem dX0_drop_28 : decode cX0_drop 28 = .ok (.bastore, 1) := by decide +kernel
theorem dX0_drop_29 : decode cX0_drop 29 = .ok (.aload_n 0, 1) := by decide +kernel
theorem dX0_drop_30 : decode cX0_drop 30 = .ok (.iload_n 1, 1) := by decide +kernel
theorem dX0_drop_31 : decode cX0_drop 31 = .ok (.iconst (-1), 1) := by decide +kernel
theorem dX0_drop_32 : decode cX0_drop 32 = .ok (.iconst 1, 1) := by decide +kernel
theorem dX0_drop_33 : decode cX0_drop 33 = .ok (.invokevirtual 103, 3) := by decide +kernel
theorem dX0_drop_36 : decode cX0_drop 36 = .ok (.aload_n 0, 1) := by decide +kernel
theorem dX0_drop_37 : decode cX0_drop 37 = .ok (.getfield 19, 3) := by decide +kernel
theorem dX0_drop_40 : decode cX0_drop 40 = .ok (.iload_n 1, 1) := by decide +kernel
theorem dX0_drop_41 : decode cX0_drop 41 = .ok (.baload, 1) := by decide +kernel
theorem dX0_drop_42 : decode cX0_drop 42 = .ok (.ireturn, 1) := by decide +kernel
abbrev cX0_add : ByteArray := prog_1_method_21_code
def yX0_add : MethodName := ⟨RX0, "add", "(III)I"⟩
theorem dX0_add_0 : decode cX0_add 0 = .ok (.iload_n 1, 1) := by decide +kernel
theorem dX0_add_1 : decode cX0_add 1 = .ok (.iload_n 2, 1) := by decide +kernel
theorem dX0_add_2 : decode cX0_add 2 = .ok (.iload_n 3, 1) := by decide +kernel
theorem dX0_add_3 : decode cX0_add 3 = .ok (.invokestatic 107, 3) := by decide +kernel
theorem dX0_add_6 : decode cX0_add 6 = .ok (.ifCond .ne 5, 3) := by decide +kernel
theorem dX0_add_9 : decode cX0_add 9 = .ok (.iconst (-1), 1) := by decide +kernel
theorem dX0_add_10 : decode cX0_add 10 = .ok (.ireturn, 1) := by decide +kernel
theorem dX0_add_11 : decode cX0_add 11 = .ok (.iconst 0, 1) := by decide +kernel
theorem dX0_add_12 : decode cX0_add 12 = .ok (.istore 4, 2) := by decide +kernel
theorem dX0_add_14 : decode cX0_add 14 = .ok (.iload 4, 2) := by decide +kernel
theorem dX0_add_16 : decode cX0_add 16 = .ok (.bipush 7, 2) := by decide +kernel
theorem dX0_add_18 : decode cX0_add 18 = .ok (.if_icmp .ge 85, 3) := by decide +kernel
theorem dX0_add_21 : decode cX0_add 21 = .ok (.aload_n 0, 1) := by decide +kernel
theorem dX0_add_22 : decode cX0_add 22 = .ok (.iload 4, 2) := by decide +kernel
theorem dX0_add_24 : decode cX0_add 24 = .ok (.invokevirtual 90, 3) := by decide +kernel
theorem dX0_add_27 : decode cX0_add 27 = .ok (.ifCond .ne 70, 3) := by decide +kernel
theorem dX0_add_30 : decode cX0_add 30 = .ok (.aload_n 0, 1) := by decide +kernel
theorem dX0_add_31 : decode cX0_add 31 = .ok (.dup, 1) := by decide +kernel
theorem dX0_add_32 : decode cX0_add 32 = .ok (.getfield 48, 3) := by decide +kernel
theorem dX0_add_35 : decode cX0_add 35 = .ok (.iconst 1, 1) := by decide +kernel
theorem dX0_add_36 : decode cX0_add 36 = .ok (.iload 4, 2) := by decide +kernel
theorem dX0_add_38 : decode cX0_add 38 = .ok (.ishl, 1) := by decide +kernel
theorem dX0_add_39 : decode cX0_add 39 = .ok (.ior, 1) := by decide +kernel
theorem dX0_add_40 : decode cX0_add 40 = .ok (.putfield 48, 3) := by decide +kernel
theorem dX0_add_43 : decode cX0_add 43 = .ok (.aload_n 0, 1) := by decide +kernel
theorem dX0_add_44 : decode cX0_add 44 = .ok (.getfield 7, 3) := by decide +kernel
theorem dX0_add_47 : decode cX0_add 47 = .ok (.iload 4, 2) := by decide +kernel
theorem dX0_add_49 : decode cX0_add 49 = .ok (.iload_n 1, 1) := by decide +kernel
theorem dX0_add_50 : decode cX0_add 50 = .ok (.i2b, 1) := by decide +kernel
theorem dX0_add_51 : decode cX0_add 51 = .ok (.bastore, 1) := by decide +kernel
theorem dX0_add_52 : decode cX0_add 52 = .ok (.aload_n 0, 1) := by decide +kernel
theorem dX0_add_53 : decode cX0_add 53 = .ok (.getfield 13, 3) := by decide +kernel
theorem dX0_add_56 : decode cX0_add 56 = .ok (.iload 4, 2) := by decide +kernel
theorem dX0_add_58 : decode cX0_add 58 = .ok (.iload_n 2, 1) := by decide +kernel
theorem dX0_add_59 : decode cX0_add 59 = .ok (.i2b, 1) := by decide +kernel
theorem dX0_add_60 : decode cX0_add 60 = .ok (.bastore, 1) := by decide +kernel
theorem dX0_add_61 : decode cX0_add 61 = .ok (.aload_n 0, 1) := by decide +kernel
theorem dX0_add_62 : decode cX0_add 62 = .ok (.getfield 16, 3) := by decide +kernel
theorem dX0_add_65 : decode cX0_add 65 = .ok (.iload 4, 2) := by decide +kernel
theorem dX0_add_67 : decode cX0_add 67 = .ok (.iload_n 3, 1) := by decide +kernel
theorem dX0_add_68 : decode cX0_add 68 = .ok (.i2b, 1) := by decide +kernel
theorem dX0_add_69 : decode cX0_add 69 = .ok (.bastore, 1) := by decide +kernel
theorem dX0_add_70 : decode cX0_add 70 = .ok (.iconst 0, 1) := by decide +kernel
theorem dX0_add_71 : decode cX0_add 71 = .ok (.istore 5, 2) := by decide +kernel
theorem dX0_add_73 : decode cX0_add 73 = .ok (.iload 5, 2) := by decide +kernel
theorem dX0_add_75 : decode cX0_add 75 = .ok (.iconst 3, 1) := by decide +kernel
theorem dX0_add_76 : decode cX0_add 76 = .ok (.if_icmp .ge 18, 3) := by decide +kernel
theorem dX0_add_79 : decode cX0_add 79 = .ok (.aload_n 0, 1) := by decide +kernel
theorem dX0_add_80 : decode cX0_add 80 = .ok (.iload 5, 2) := by decide +kernel
theorem dX0_add_82 : decode cX0_add 82 = .ok (.iload 4, 2) := by decide +kernel
theorem dX0_add_84 : decode cX0_add 84 = .ok (.iconst 1, 1) := by decide +kernel
theorem dX0_add_85 : decode cX0_add 85 = .ok (.invokevirtual 103, 3) := by decide +kernel
theorem dX0_add_88 : decode cX0_add 88 = .ok (.iinc 5 1, 3) := by decide +kernel
theorem dX0_add_91 : decode cX0_add 91 = .ok (.goto (-18), 3) := by decide +kernel
theorem dX0_add_94 : decode cX0_add 94 = .ok (.iload 4, 2) := by decide +kernel
theorem dX0_add_96 : decode cX0_add 96 = .ok (.ireturn, 1) := by decide +kernel
theorem dX0_add_97 : decode cX0_add 97 = .ok (.iinc 4 1, 3) := by decide +kernel
theorem dX0_add_100 : decode cX0_add 100 = .ok (.goto (-86), 3) := by decide +kernel
theorem dX0_add_103 : decode cX0_add 103 = .ok (.bipush (-2), 2) := by decide +kernel
theorem dX0_add_105 : decode cX0_add 105 = .ok (.ireturn, 1) := by decide +kernel
end
section
set_option maxRecDepth 100000
abbrev cX0_factOk : ByteArray := prog_1_method_20_code
def yX0_factOk : MethodName := ⟨RX0, "factOk", "(III)Z"⟩
theorem dX0_factOk_0 : decode cX0_factOk 0 = .ok (.iload_n 0, 1) := by decide +kernel
theorem dX0_factOk_1 : decode cX0_factOk 1 = .ok (.ifCond .lt 30, 3) := by decide +kernel
theorem dX0_factOk_4 : decode cX0_factOk 4 = .ok (.iload_n 0, 1) := by decide +kernel
theorem dX0_factOk_5 : decode cX0_factOk 5 = .ok (.iconst 2, 1) := by decide +kernel
theorem dX0_factOk_6 : decode cX0_factOk 6 = .ok (.if_icmp .gt 25, 3) := by decide +kernel
theorem dX0_factOk_9 : decode cX0_factOk 9 = .ok (.iload_n 1, 1) := by decide +kernel
theorem dX0_factOk_10 : decode cX0_factOk 10 = .ok (.ifCond .lt 21, 3) := by decide +kernel
theorem dX0_factOk_13 : decode cX0_factOk 13 = .ok (.iload_n 1, 1) := by decide +kernel
theorem dX0_factOk_14 : decode cX0_factOk 14 = .ok (.iconst 3, 1) := by decide +kernel
theorem dX0_factOk_15 : decode cX0_factOk 15 = .ok (.if_icmp .gt 16, 3) := by decide +kernel
theorem dX0_factOk_18 : decode cX0_factOk 18 = .ok (.iload_n 2, 1) := by decide +kernel
theorem dX0_factOk_19 : decode cX0_factOk 19 = .ok (.ifCond .lt 12, 3) := by decide +kernel
theorem dX0_factOk_22 : decode cX0_factOk 22 = .ok (.iload_n 2, 1) := by decide +kernel
theorem dX0_factOk_23 : decode cX0_factOk 23 = .ok (.iconst 3, 1) := by decide +kernel
theorem dX0_factOk_24 : decode cX0_factOk 24 = .ok (.if_icmp .gt 7, 3) := by decide +kernel
theorem dX0_factOk_27 : decode cX0_factOk 27 = .ok (.iconst 1, 1) := by decide +kernel
theorem dX0_factOk_28 : decode cX0_factOk 28 = .ok (.goto 4, 3) := by decide +kernel
theorem dX0_factOk_31 : decode cX0_factOk 31 = .ok (.iconst 0, 1) := by decide +kernel
theorem dX0_factOk_32 : decode cX0_factOk 32 = .ok (.ireturn, 1) := by decide +kernel
abbrev cX0_remove : ByteArray := prog_1_method_22_code
def yX0_remove : MethodName := ⟨RX0, "remove", "(I)Z"⟩
theorem dX0_remove_0 : decode cX0_remove 0 = .ok (.aload_n 0, 1) := by decide +kernel
theorem dX0_remove_1 : decode cX0_remove 1 = .ok (.iload_n 1, 1) := by decide +kernel
theorem dX0_remove_2 : decode cX0_remove 2 = .ok (.invokevirtual 90, 3) := by decide +kernel
theorem dX0_remove_5 : decode cX0_remove 5 = .ok (.ifCond .ne 5, 3) := by decide +kernel
theorem dX0_remove_8 : decode cX0_remove 8 = .ok (.iconst 0, 1) := by decide +kernel
theorem dX0_remove_9 : decode cX0_remove 9 = .ok (.ireturn, 1) := by decide +kernel
theorem dX0_remove_10 : decode cX0_remove 10 = .ok (.aload_n 0, 1) := by decide +kernel
theorem dX0_remove_11 : decode cX0_remove 11 = .ok (.dup, 1) := by decide +kernel
theorem dX0_remove_12 : decode cX0_remove 12 = .ok (.getfield 48, 3) := by decide +kernel
theorem dX0_remove_15 : decode cX0_remove 15 = .ok (.iconst 1, 1) := by decide +kernel
theorem dX0_remove_16 : decode cX0_remove 16 = .ok (.iload_n 1, 1) := by decide +kernel
theorem dX0_remove_17 : decode cX0_remove 17 = .ok (.ishl, 1) := by decide +kernel
theorem dX0_remove_18 : decode cX0_remove 18 = .ok (.iconst (-1), 1) := by decide +kernel
theorem dX0_remove_19 : decode cX0_remove 19 = .ok (.ixor, 1) := by decide +kernel
theorem dX0_remove_20 : decode cX0_remove 20 = .ok (.iand, 1) := by decide +kernel
theorem dX0_remove_21 : decode cX0_remove 21 = .ok (.putfield 48, 3) := by decide +kernel
theorem dX0_remove_24 : decode cX0_remove 24 = .ok (.iconst 0, 1) := by decide +kernel
theorem dX0_remove_25 : decode cX0_remove 25 = .ok (.istore_n 2, 1) := by decide +kernel
theorem dX0_remove_26 : decode cX0_remove 26 = .ok (.iload_n 2, 1) := by decide +kernel
theorem dX0_remove_27 : decode cX0_remove 27 = .ok (.iconst 3, 1) := by decide +kernel
theorem dX0_remove_28 : decode cX0_remove 28 = .ok (.if_icmp .ge 16, 3) := by decide +kernel
theorem dX0_remove_31 : decode cX0_remove 31 = .ok (.aload_n 0, 1) := by decide +kernel
theorem dX0_remove_32 : decode cX0_remove 32 = .ok (.iload_n 2, 1) := by decide +kernel
theorem dX0_remove_33 : decode cX0_remove 33 = .ok (.iload_n 1, 1) := by decide +kernel
theorem dX0_remove_34 : decode cX0_remove 34 = .ok (.iconst 0, 1) := by decide +kernel
theorem dX0_remove_35 : decode cX0_remove 35 = .ok (.invokevirtual 103, 3) := by decide +kernel
theorem dX0_remove_38 : decode cX0_remove 38 = .ok (.iinc 2 1, 3) := by decide +kernel
theorem dX0_remove_41 : decode cX0_remove 41 = .ok (.goto (-15), 3) := by decide +kernel
theorem dX0_remove_44 : decode cX0_remove 44 = .ok (.iconst 1, 1) := by decide +kernel
theorem dX0_remove_45 : decode cX0_remove 45 = .ok (.ireturn, 1) := by decide +kernel
abbrev cX0_facts : ByteArray := prog_1_method_23_code
def yX0_facts : MethodName := ⟨RX0, "facts", "()I"⟩
theorem dX0_facts_0 : decode cX0_facts 0 = .ok (.aload_n 0, 1) := by decide +kernel
theorem dX0_facts_1 : decode cX0_facts 1 = .ok (.getfield 48, 3) := by decide +kernel
theorem dX0_facts_4 : decode cX0_facts 4 = .ok (.ireturn, 1) := by decide +kernel
abbrev cX0_matches : ByteArray := prog_1_method_25_code
def yX0_matches : MethodName := ⟨RX0, "matches", "(I)I"⟩
theorem dX0_matches_0 : decode cX0_matches 0 = .ok (.iload_n 1, 1) := by decide +kernel
theorem dX0_matches_1 : decode cX0_matches 1 = .ok (.invokestatic 100, 3) := by decide +kernel
theorem dX0_matches_4 : decode cX0_matches 4 = .ok (.ifCond .eq 17, 3) := by decide +kernel
theorem dX0_matches_7 : decode cX0_matches 7 = .ok (.aload_n 0, 1) := by decide +kernel
theorem dX0_matches_8 : decode cX0_matches 8 = .ok (.iload_n 1, 1) := by decide +kernel
theorem dX0_matches_9 : decode cX0_matches 9 = .ok (.aload_n 0, 1) := by decide +kernel
theorem dX0_matches_10 : decode cX0_matches 10 = .ok (.getfield 19, 3) := by decide +kernel
theorem dX0_matches_13 : decode cX0_matches 13 = .ok (.iload_n 1, 1) := by decide +kernel
theorem dX0_matches_14 : decode cX0_matches 14 = .ok (.baload, 1) := by decide +kernel
theorem dX0_matches_15 : decode cX0_matches 15 = .ok (.invokevirtual 110, 3) := by decide +kernel
theorem dX0_matches_18 : decode cX0_matches 18 = .ok (.goto 4, 3) := by decide +kernel
theorem dX0_matches_21 : decode cX0_matches 21 = .ok (.iconst (-1), 1) := by decide +kernel
theorem dX0_matches_22 : decode cX0_matches 22 = .ok (.ireturn, 1) := by decide +kernel
abbrev cX0_countAt : ByteArray := prog_1_method_24_code
def yX0_countAt : MethodName := ⟨RX0, "countAt", "(II)I"⟩
theorem dX0_countAt_0 : decode cX0_countAt 0 = .ok (.iconst 0, 1) := by decide +kernel
theorem dX0_countAt_1 : decode cX0_countAt 1 = .ok (.istore_n 3, 1) := by decide +kernel
theorem dX0_countAt_2 : decode cX0_countAt 2 = .ok (.iconst 0, 1) := by decide +kernel
theorem dX0_countAt_3 : decode cX0_countAt 3 = .ok (.istore 4, 2) := by decide +kernel
theorem dX0_countAt_5 : decode cX0_countAt 5 = .ok (.iload 4, 2) := by decide +kernel
theorem dX0_countAt_7 : decode cX0_countAt 7 = .ok (.iload_n 2, 1) := by decide +kernel
theorem dX0_countAt_8 : decode cX0_countAt 8 = .ok (.invokestatic 67, 3) := by decide +kernel
theorem dX0_countAt_11 : decode cX0_countAt 11 = .ok (.if_icmp .ge 28, 3) := by decide +kernel
theorem dX0_countAt_14 : decode cX0_countAt 14 = .ok (.iload_n 3, 1) := by decide +kernel
theorem dX0_countAt_15 : decode cX0_countAt 15 = .ok (.aload_n 0, 1) := by decide +kernel
theorem dX0_countAt_16 : decode cX0_countAt 16 = .ok (.iload_n 1, 1) := by decide +kernel
theorem dX0_countAt_17 : decode cX0_countAt 17 = .ok (.iload_n 2, 1) := by decide +kernel
theorem dX0_countAt_18 : decode cX0_countAt 18 = .ok (.iload 4, 2) := by decide +kernel
theorem dX0_countAt_20 : decode cX0_countAt 20 = .ok (.invokevirtual 71, 3) := by decide +kernel
theorem dX0_countAt_23 : decode cX0_countAt 23 = .ok (.ifCond .eq 7, 3) := by decide +kernel
theorem dX0_countAt_26 : decode cX0_countAt 26 = .ok (.iconst 1, 1) := by decide +kernel
theorem dX0_countAt_27 : decode cX0_countAt 27 = .ok (.goto 4, 3) := by decide +kernel
theorem dX0_countAt_30 : decode cX0_countAt 30 = .ok (.iconst 0, 1) := by decide +kernel
theorem dX0_countAt_31 : decode cX0_countAt 31 = .ok (.iadd, 1) := by decide +kernel
theorem dX0_countAt_32 : decode cX0_countAt 32 = .ok (.istore_n 3, 1) := by decide +kernel
theorem dX0_countAt_33 : decode cX0_countAt 33 = .ok (.iinc 4 1, 3) := by decide +kernel
theorem dX0_countAt_36 : decode cX0_countAt 36 = .ok (.goto (-31), 3) := by decide +kernel
theorem dX0_countAt_39 : decode cX0_countAt 39 = .ok (.iload_n 3, 1) := by decide +kernel
theorem dX0_countAt_40 : decode cX0_countAt 40 = .ok (.ireturn, 1) := by decide +kernel
abbrev cX0_match : ByteArray := prog_1_method_26_code
def yX0_match : MethodName := ⟨RX0, "match", "(II)I"⟩
theorem dX0_match_0 : decode cX0_match 0 = .ok (.iload_n 1, 1) := by decide +kernel
theorem dX0_match_1 : decode cX0_match 1 = .ok (.invokestatic 100, 3) := by decide +kernel
theorem dX0_match_4 : decode cX0_match 4 = .ok (.ifCond .ne 5, 3) := by decide +kernel
theorem dX0_match_7 : decode cX0_match 7 = .ok (.iconst (-1), 1) := by decide +kernel
theorem dX0_match_8 : decode cX0_match 8 = .ok (.ireturn, 1) := by decide +kernel
theorem dX0_match_9 : decode cX0_match 9 = .ok (.aload_n 0, 1) := by decide +kernel
theorem dX0_match_10 : decode cX0_match 10 = .ok (.getfield 19, 3) := by decide +kernel
theorem dX0_match_13 : decode cX0_match 13 = .ok (.iload_n 1, 1) := by decide +kernel
theorem dX0_match_14 : decode cX0_match 14 = .ok (.baload, 1) := by decide +kernel
theorem dX0_match_15 : decode cX0_match 15 = .ok (.istore_n 3, 1) := by decide +kernel
theorem dX0_match_16 : decode cX0_match 16 = .ok (.sipush 511, 3) := by decide +kernel
theorem dX0_match_19 : decode cX0_match 19 = .ok (.iload_n 3, 1) := by decide +kernel
theorem dX0_match_20 : decode cX0_match 20 = .ok (.invokestatic 67, 3) := by decide +kernel
theorem dX0_match_23 : decode cX0_match 23 = .ok (.iconst 1, 1) := by decide +kernel
theorem dX0_match_24 : decode cX0_match 24 = .ok (.isub, 1) := by decide +kernel
theorem dX0_match_25 : decode cX0_match 25 = .ok (.iconst (-1), 1) := by decide +kernel
theorem dX0_match_26 : decode cX0_match 26 = .ok (.ixor, 1) := by decide +kernel
theorem dX0_match_27 : decode cX0_match 27 = .ok (.iand, 1) := by decide +kernel
theorem dX0_match_28 : decode cX0_match 28 = .ok (.istore 4, 2) := by decide +kernel
theorem dX0_match_30 : decode cX0_match 30 = .ok (.iconst 0, 1) := by decide +kernel
theorem dX0_match_31 : decode cX0_match 31 = .ok (.istore 5, 2) := by decide +kernel
theorem dX0_match_33 : decode cX0_match 33 = .ok (.iconst 0, 1) := by decide +kernel
theorem dX0_match_34 : decode cX0_match 34 = .ok (.istore 6, 2) := by decide +kernel
theorem dX0_match_36 : decode cX0_match 36 = .ok (.iload 6, 2) := by decide +kernel
theorem dX0_match_38 : decode cX0_match 38 = .ok (.iload_n 3, 1) := by decide +kernel
theorem dX0_match_39 : decode cX0_match 39 = .ok (.invokestatic 67, 3) := by decide +kernel
theorem dX0_match_42 : decode cX0_match 42 = .ok (.if_icmp .ge 35, 3) := by decide +kernel
theorem dX0_match_45 : decode cX0_match 45 = .ok (.aload_n 0, 1) := by decide +kernel
theorem dX0_match_46 : decode cX0_match 46 = .ok (.iload_n 1, 1) := by decide +kernel
theorem dX0_match_47 : decode cX0_match 47 = .ok (.iload_n 3, 1) := by decide +kernel
theorem dX0_match_48 : decode cX0_match 48 = .ok (.iload 6, 2) := by decide +kernel
theorem dX0_match_50 : decode cX0_match 50 = .ok (.invokevirtual 71, 3) := by decide +kernel
theorem dX0_match_53 : decode cX0_match 53 = .ok (.ifCond .eq 18, 3) := by decide +kernel
theorem dX0_match_56 : decode cX0_match 56 = .ok (.iload 5, 2) := by decide +kernel
theorem dX0_match_58 : decode cX0_match 58 = .ok (.iload_n 2, 1) := by decide +kernel
theorem dX0_match_59 : decode cX0_match 59 = .ok (.if_icmp .ne 9, 3) := by decide +kernel
theorem dX0_match_62 : decode cX0_match 62 = .ok (.iload 6, 2) := by decide +kernel
theorem dX0_match_64 : decode cX0_match 64 = .ok (.iload 4, 2) := by decide +kernel
theorem dX0_match_66 : decode cX0_match 66 = .ok (.ior, 1) := by decide +kernel
theorem dX0_match_67 : decode cX0_match 67 = .ok (.ireturn, 1) := by decide +kernel
theorem dX0_match_68 : decode cX0_match 68 = .ok (.iinc 5 1, 3) := by decide +kernel
theorem dX0_match_71 : decode cX0_match 71 = .ok (.iinc 6 1, 3) := by decide +kernel
theorem dX0_match_74 : decode cX0_match 74 = .ok (.goto (-38), 3) := by decide +kernel
theorem dX0_match_77 : decode cX0_match 77 = .ok (.iconst (-1), 1) := by decide +kernel
theorem dX0_match_78 : decode cX0_match 78 = .ok (.ireturn, 1) := by decide +kernel
abbrev cX0_ready : ByteArray := prog_1_method_27_code
def yX0_ready : MethodName := ⟨RX0, "ready", "()I"⟩
theorem dX0_ready_0 : decode cX0_ready 0 = .ok (.iconst 0, 1) := by decide +kernel
theorem dX0_ready_1 : decode cX0_ready 1 = .ok (.istore_n 1, 1) := by decide +kernel
theorem dX0_ready_2 : decode cX0_ready 2 = .ok (.iconst 0, 1) := by decide +kernel
theorem dX0_ready_3 : decode cX0_ready 3 = .ok (.istore_n 2, 1) := by decide +kernel
theorem dX0_ready_4 : decode cX0_ready 4 = .ok (.iload_n 2, 1) := by decide +kernel
theorem dX0_ready_5 : decode cX0_ready 5 = .ok (.iconst 3, 1) := by decide +kernel
theorem dX0_ready_6 : decode cX0_ready 6 = .ok (.if_icmp .ge 27, 3) := by decide +kernel
theorem dX0_ready_9 : decode cX0_ready 9 = .ok (.iload_n 1, 1) := by decide +kernel
theorem dX0_ready_10 : decode cX0_ready 10 = .ok (.aload_n 0, 1) := by decide +kernel
theorem dX0_ready_11 : decode cX0_ready 11 = .ok (.iload_n 2, 1) := by decide +kernel
theorem dX0_ready_12 : decode cX0_ready 12 = .ok (.invokevirtual 114, 3) := by decide +kernel
theorem dX0_ready_15 : decode cX0_ready 15 = .ok (.ifCond .le 9, 3) := by decide +kernel
theorem dX0_ready_18 : decode cX0_ready 18 = .ok (.iconst 1, 1) := by decide +kernel
theorem dX0_ready_19 : decode cX0_ready 19 = .ok (.iload_n 2, 1) := by decide +kernel
theorem dX0_ready_20 : decode cX0_ready 20 = .ok (.ishl, 1) := by decide +kernel
theorem dX0_ready_21 : decode cX0_ready 21 = .ok (.goto 4, 3) := by decide +kernel
theorem dX0_ready_24 : decode cX0_ready 24 = .ok (.iconst 0, 1) := by decide +kernel
theorem dX0_ready_25 : decode cX0_ready 25 = .ok (.ior, 1) := by decide +kernel
theorem dX0_ready_26 : decode cX0_ready 26 = .ok (.istore_n 1, 1) := by decide +kernel
theorem dX0_ready_27 : decode cX0_ready 27 = .ok (.iinc 2 1, 3) := by decide +kernel
theorem dX0_ready_30 : decode cX0_ready 30 = .ok (.goto (-26), 3) := by decide +kernel
theorem dX0_ready_33 : decode cX0_ready 33 = .ok (.iload_n 1, 1) := by decide +kernel
theorem dX0_ready_34 : decode cX0_ready 34 = .ok (.ireturn, 1) := by decide +kernel
abbrev cX0_uses : ByteArray := prog_1_method_28_code
def yX0_uses : MethodName := ⟨RX0, "uses", "(I)I"⟩
theorem dX0_uses_0 : decode cX0_uses 0 = .ok (.aload_n 0, 1) := by decide +kernel
theorem dX0_uses_1 : decode cX0_uses 1 = .ok (.iload_n 1, 1) := by decide +kernel
theorem dX0_uses_2 : decode cX0_uses 2 = .ok (.invokevirtual 90, 3) := by decide +kernel
theorem dX0_uses_5 : decode cX0_uses 5 = .ok (.ifCond .ne 5, 3) := by decide +kernel
theorem dX0_uses_8 : decode cX0_uses 8 = .ok (.iconst (-1), 1) := by decide +kernel
theorem dX0_uses_9 : decode cX0_uses 9 = .ok (.ireturn, 1) := by decide +kernel
theorem dX0_uses_10 : decode cX0_uses 10 = .ok (.iconst 0, 1) := by decide +kernel
theorem dX0_uses_11 : decode cX0_uses 11 = .ok (.istore_n 2, 1) := by decide +kernel
theorem dX0_uses_12 : decode cX0_uses 12 = .ok (.iconst 0, 1) := by decide +kernel
theorem dX0_uses_13 : decode cX0_uses 13 = .ok (.istore_n 3, 1) := by decide +kernel
theorem dX0_uses_14 : decode cX0_uses 14 = .ok (.iload_n 3, 1) := by decide +kernel
theorem dX0_uses_15 : decode cX0_uses 15 = .ok (.iconst 3, 1) := by decide +kernel
theorem dX0_uses_16 : decode cX0_uses 16 = .ok (.if_icmp .ge 67, 3) := by decide +kernel
theorem dX0_uses_19 : decode cX0_uses 19 = .ok (.aload_n 0, 1) := by decide +kernel
theorem dX0_uses_20 : decode cX0_uses 20 = .ok (.getfield 19, 3) := by decide +kernel
theorem dX0_uses_23 : decode cX0_uses 23 = .ok (.iload_n 3, 1) := by decide +kernel
theorem dX0_uses_24 : decode cX0_uses 24 = .ok (.baload, 1) := by decide +kernel
theorem dX0_uses_25 : decode cX0_uses 25 = .ok (.istore 4, 2) := by decide +kernel
theorem dX0_uses_27 : decode cX0_uses 27 = .ok (.iconst 0, 1) := by decide +kernel
theorem dX0_uses_28 : decode cX0_uses 28 = .ok (.istore 5, 2) := by decide +kernel
theorem dX0_uses_30 : decode cX0_uses 30 = .ok (.iload 5, 2) := by decide +kernel
theorem dX0_uses_32 : decode cX0_uses 32 = .ok (.iload 4, 2) := by decide +kernel
theorem dX0_uses_34 : decode cX0_uses 34 = .ok (.invokestatic 67, 3) := by decide +kernel
theorem dX0_uses_37 : decode cX0_uses 37 = .ok (.if_icmp .ge 40, 3) := by decide +kernel
theorem dX0_uses_40 : decode cX0_uses 40 = .ok (.iload_n 2, 1) := by decide +kernel
theorem dX0_uses_41 : decode cX0_uses 41 = .ok (.aload_n 0, 1) := by decide +kernel
theorem dX0_uses_42 : decode cX0_uses 42 = .ok (.iload_n 3, 1) := by decide +kernel
theorem dX0_uses_43 : decode cX0_uses 43 = .ok (.iload 4, 2) := by decide +kernel
theorem dX0_uses_45 : decode cX0_uses 45 = .ok (.iload 5, 2) := by decide +kernel
theorem dX0_uses_47 : decode cX0_uses 47 = .ok (.invokevirtual 71, 3) := by decide +kernel
theorem dX0_uses_50 : decode cX0_uses 50 = .ok (.ifCond .eq 18, 3) := by decide +kernel
theorem dX0_uses_53 : decode cX0_uses 53 = .ok (.iload 5, 2) := by decide +kernel
theorem dX0_uses_55 : decode cX0_uses 55 = .ok (.iload 4, 2) := by decide +kernel
theorem dX0_uses_57 : decode cX0_uses 57 = .ok (.iload_n 1, 1) := by decide +kernel
theorem dX0_uses_58 : decode cX0_uses 58 = .ok (.invokestatic 117, 3) := by decide +kernel
theorem dX0_uses_61 : decode cX0_uses 61 = .ok (.ifCond .eq 7, 3) := by decide +kernel
theorem dX0_uses_64 : decode cX0_uses 64 = .ok (.iconst 1, 1) := by decide +kernel
theorem dX0_uses_65 : decode cX0_uses 65 = .ok (.goto 4, 3) := by decide +kernel
theorem dX0_uses_68 : decode cX0_uses 68 = .ok (.iconst 0, 1) := by decide +kernel
theorem dX0_uses_69 : decode cX0_uses 69 = .ok (.iadd, 1) := by decide +kernel
theorem dX0_uses_70 : decode cX0_uses 70 = .ok (.istore_n 2, 1) := by decide +kernel
theorem dX0_uses_71 : decode cX0_uses 71 = .ok (.iinc 5 1, 3) := by decide +kernel
theorem dX0_uses_74 : decode cX0_uses 74 = .ok (.goto (-44), 3) := by decide +kernel
theorem dX0_uses_77 : decode cX0_uses 77 = .ok (.iinc 3 1, 3) := by decide +kernel
theorem dX0_uses_80 : decode cX0_uses 80 = .ok (.goto (-66), 3) := by decide +kernel
theorem dX0_uses_83 : decode cX0_uses 83 = .ok (.iload_n 2, 1) := by decide +kernel
theorem dX0_uses_84 : decode cX0_uses 84 = .ok (.ireturn, 1) := by decide +kernel
abbrev cX0_holds : ByteArray := prog_1_method_29_code
def yX0_holds : MethodName := ⟨RX0, "holds", "(III)Z"⟩
theorem dX0_holds_0 : decode cX0_holds 0 = .ok (.iconst 0, 1) := by decide +kernel
theorem dX0_holds_1 : decode cX0_holds 1 = .ok (.istore_n 3, 1) := by decide +kernel
theorem dX0_holds_2 : decode cX0_holds 2 = .ok (.iload_n 3, 1) := by decide +kernel
theorem dX0_holds_3 : decode cX0_holds 3 = .ok (.iload_n 1, 1) := by decide +kernel
theorem dX0_holds_4 : decode cX0_holds 4 = .ok (.if_icmp .ge 23, 3) := by decide +kernel
theorem dX0_holds_7 : decode cX0_holds 7 = .ok (.iload_n 0, 1) := by decide +kernel
theorem dX0_holds_8 : decode cX0_holds 8 = .ok (.iconst 3, 1) := by decide +kernel
theorem dX0_holds_9 : decode cX0_holds 9 = .ok (.iload_n 3, 1) := by decide +kernel
theorem dX0_holds_10 : decode cX0_holds 10 = .ok (.imul, 1) := by decide +kernel
theorem dX0_holds_11 : decode cX0_holds 11 = .ok (.ishr, 1) := by decide +kernel
theorem dX0_holds_12 : decode cX0_holds 12 = .ok (.bipush 7, 2) := by decide +kernel
theorem dX0_holds_14 : decode cX0_holds 14 = .ok (.iand, 1) := by decide +kernel
theorem dX0_holds_15 : decode cX0_holds 15 = .ok (.iload_n 2, 1) := by decide +kernel
theorem dX0_holds_16 : decode cX0_holds 16 = .ok (.if_icmp .ne 5, 3) := by decide +kernel
theorem dX0_holds_19 : decode cX0_holds 19 = .ok (.iconst 1, 1) := by decide +kernel
theorem dX0_holds_20 : decode cX0_holds 20 = .ok (.ireturn, 1) := by decide +kernel
theorem dX0_holds_21 : decode cX0_holds 21 = .ok (.iinc 3 1, 3) := by decide +kernel
theorem dX0_holds_24 : decode cX0_holds 24 = .ok (.goto (-22), 3) := by decide +kernel
theorem dX0_holds_27 : decode cX0_holds 27 = .ok (.iconst 0, 1) := by decide +kernel
theorem dX0_holds_28 : decode cX0_holds 28 = .ok (.ireturn, 1) := by decide +kernel
abbrev cX0_fitting : ByteArray := prog_1_method_30_code
def yX0_fitting : MethodName := ⟨RX0, "fitting", "(II)I"⟩
theorem dX0_fitting_0 : decode cX0_fitting 0 = .ok (.iload_n 1, 1) := by decide +kernel
theorem dX0_fitting_1 : decode cX0_fitting 1 = .ok (.invokestatic 100, 3) := by decide +kernel
theorem dX0_fitting_4 : decode cX0_fitting 4 = .ok (.ifCond .eq 17, 3) := by decide +kernel
theorem dX0_fitting_7 : decode cX0_fitting 7 = .ok (.iload_n 2, 1) := by decide +kernel
theorem dX0_fitting_8 : decode cX0_fitting 8 = .ok (.ifCond .lt 13, 3) := by decide +kernel
theorem dX0_fitting_11 : decode cX0_fitting 11 = .ok (.iload_n 2, 1) := by decide +kernel
theorem dX0_fitting_12 : decode cX0_fitting 12 = .ok (.aload_n 0, 1) := by decide +kernel
theorem dX0_fitting_13 : decode cX0_fitting 13 = .ok (.getfield 19, 3) := by decide +kernel
theorem dX0_fitting_16 : decode cX0_fitting 16 = .ok (.iload_n 1, 1) := by decide +kernel
theorem dX0_fitting_17 : decode cX0_fitting 17 = .ok (.baload, 1) := by decide +kernel
theorem dX0_fitting_18 : decode cX0_fitting 18 = .ok (.if_icmp .lt 5, 3) := by decide +kernel
theorem dX0_fitting_21 : decode cX0_fitting 21 = .ok (.iconst (-1), 1) := by decide +kernel
theorem dX0_fitting_22 : decode cX0_fitting 22 = .ok (.ireturn, 1) := by decide +kernel
theorem dX0_fitting_23 : decode cX0_fitting 23 = .ok (.iconst 0, 1) := by decide +kernel
theorem dX0_fitting_24 : decode cX0_fitting 24 = .ok (.istore_n 3, 1) := by decide +kernel
theorem dX0_fitting_25 : decode cX0_fitting 25 = .ok (.iconst 0, 1) := by decide +kernel
theorem dX0_fitting_26 : decode cX0_fitting 26 = .ok (.istore 4, 2) := by decide +kernel
theorem dX0_fitting_28 : decode cX0_fitting 28 = .ok (.iload 4, 2) := by decide +kernel
theorem dX0_fitting_30 : decode cX0_fitting 30 = .ok (.bipush 7, 2) := by decide +kernel
theorem dX0_fitting_32 : decode cX0_fitting 32 = .ok (.if_icmp .ge 40, 3) := by decide +kernel
theorem dX0_fitting_35 : decode cX0_fitting 35 = .ok (.iload_n 3, 1) := by decide +kernel
theorem dX0_fitting_36 : decode cX0_fitting 36 = .ok (.aload_n 0, 1) := by decide +kernel
theorem dX0_fitting_37 : decode cX0_fitting 37 = .ok (.iload 4, 2) := by decide +kernel
theorem dX0_fitting_39 : decode cX0_fitting 39 = .ok (.invokevirtual 90, 3) := by decide +kernel
theorem dX0_fitting_42 : decode cX0_fitting 42 = .ok (.ifCond .eq 21, 3) := by decide +kernel
theorem dX0_fitting_45 : decode cX0_fitting 45 = .ok (.aload_n 0, 1) := by decide +kernel
theorem dX0_fitting_46 : decode cX0_fitting 46 = .ok (.iload_n 1, 1) := by decide +kernel
theorem dX0_fitting_47 : decode cX0_fitting 47 = .ok (.iconst 3, 1) := by decide +kernel
theorem dX0_fitting_48 : decode cX0_fitting 48 = .ok (.imul, 1) := by decide +kernel
theorem dX0_fitting_49 : decode cX0_fitting 49 = .ok (.iload_n 2, 1) := by decide +kernel
theorem dX0_fitting_50 : decode cX0_fitting 50 = .ok (.iadd, 1) := by decide +kernel
theorem dX0_fitting_51 : decode cX0_fitting 51 = .ok (.iload 4, 2) := by decide +kernel
theorem dX0_fitting_53 : decode cX0_fitting 53 = .ok (.invokevirtual 120, 3) := by decide +kernel
theorem dX0_fitting_56 : decode cX0_fitting 56 = .ok (.ifCond .eq 7, 3) := by decide +kernel
theorem dX0_fitting_59 : decode cX0_fitting 59 = .ok (.iconst 1, 1) := by decide +kernel
theorem dX0_fitting_60 : decode cX0_fitting 60 = .ok (.goto 4, 3) := by decide +kernel
theorem dX0_fitting_63 : decode cX0_fitting 63 = .ok (.iconst 0, 1) := by decide +kernel
theorem dX0_fitting_64 : decode cX0_fitting 64 = .ok (.iadd, 1) := by decide +kernel
theorem dX0_fitting_65 : decode cX0_fitting 65 = .ok (.istore_n 3, 1) := by decide +kernel
theorem dX0_fitting_66 : decode cX0_fitting 66 = .ok (.iinc 4 1, 3) := by decide +kernel
theorem dX0_fitting_69 : decode cX0_fitting 69 = .ok (.goto (-41), 3) := by decide +kernel
theorem dX0_fitting_72 : decode cX0_fitting 72 = .ok (.iload_n 3, 1) := by decide +kernel
theorem dX0_fitting_73 : decode cX0_fitting 73 = .ok (.ireturn, 1) := by decide +kernel
abbrev cX0_looksRight : ByteArray := prog_1_method_10_code
def yX0_looksRight : MethodName := ⟨RX0, "looksRight", "(II)Z"⟩
theorem dX0_looksRight_0 : decode cX0_looksRight 0 = .ok (.aload_n 0, 1) := by decide +kernel
theorem dX0_looksRight_1 : decode cX0_looksRight 1 = .ok (.getfield 7, 3) := by decide +kernel
theorem dX0_looksRight_4 : decode cX0_looksRight 4 = .ok (.iload_n 2, 1) := by decide +kernel
theorem dX0_looksRight_5 : decode cX0_looksRight 5 = .ok (.baload, 1) := by decide +kernel
theorem dX0_looksRight_6 : decode cX0_looksRight 6 = .ok (.aload_n 0, 1) := by decide +kernel
theorem dX0_looksRight_7 : decode cX0_looksRight 7 = .ok (.getfield 22, 3) := by decide +kernel
theorem dX0_looksRight_10 : decode cX0_looksRight 10 = .ok (.iload_n 1, 1) := by decide +kernel
theorem dX0_looksRight_11 : decode cX0_looksRight 11 = .ok (.baload, 1) := by decide +kernel
theorem dX0_looksRight_12 : decode cX0_looksRight 12 = .ok (.if_icmp .ne 43, 3) := by decide +kernel
theorem dX0_looksRight_15 : decode cX0_looksRight 15 = .ok (.aload_n 0, 1) := by decide +kernel
theorem dX0_looksRight_16 : decode cX0_looksRight 16 = .ok (.getfield 25, 3) := by decide +kernel
theorem dX0_looksRight_19 : decode cX0_looksRight 19 = .ok (.iload_n 1, 1) := by decide +kernel
theorem dX0_looksRight_20 : decode cX0_looksRight 20 = .ok (.baload, 1) := by decide +kernel
theorem dX0_looksRight_21 : decode cX0_looksRight 21 = .ok (.aload_n 0, 1) := by decide +kernel
theorem dX0_looksRight_22 : decode cX0_looksRight 22 = .ok (.getfield 13, 3) := by decide +kernel
theorem dX0_looksRight_25 : decode cX0_looksRight 25 = .ok (.iload_n 2, 1) := by decide +kernel
theorem dX0_looksRight_26 : decode cX0_looksRight 26 = .ok (.baload, 1) := by decide +kernel
theorem dX0_looksRight_27 : decode cX0_looksRight 27 = .ok (.invokestatic 56, 3) := by decide +kernel
theorem dX0_looksRight_30 : decode cX0_looksRight 30 = .ok (.ifCond .eq 25, 3) := by decide +kernel
theorem dX0_looksRight_33 : decode cX0_looksRight 33 = .ok (.aload_n 0, 1) := by decide +kernel
theorem dX0_looksRight_34 : decode cX0_looksRight 34 = .ok (.getfield 28, 3) := by decide +kernel
theorem dX0_looksRight_37 : decode cX0_looksRight 37 = .ok (.iload_n 1, 1) := by decide +kernel
theorem dX0_looksRight_38 : decode cX0_looksRight 38 = .ok (.baload, 1) := by decide +kernel
theorem dX0_looksRight_39 : decode cX0_looksRight 39 = .ok (.aload_n 0, 1) := by decide +kernel
theorem dX0_looksRight_40 : decode cX0_looksRight 40 = .ok (.getfield 16, 3) := by decide +kernel
theorem dX0_looksRight_43 : decode cX0_looksRight 43 = .ok (.iload_n 2, 1) := by decide +kernel
theorem dX0_looksRight_44 : decode cX0_looksRight 44 = .ok (.baload, 1) := by decide +kernel
theorem dX0_looksRight_45 : decode cX0_looksRight 45 = .ok (.invokestatic 56, 3) := by decide +kernel
theorem dX0_looksRight_48 : decode cX0_looksRight 48 = .ok (.ifCond .eq 7, 3) := by decide +kernel
theorem dX0_looksRight_51 : decode cX0_looksRight 51 = .ok (.iconst 1, 1) := by decide +kernel
theorem dX0_looksRight_52 : decode cX0_looksRight 52 = .ok (.goto 4, 3) := by decide +kernel
theorem dX0_looksRight_55 : decode cX0_looksRight 55 = .ok (.iconst 0, 1) := by decide +kernel
theorem dX0_looksRight_56 : decode cX0_looksRight 56 = .ok (.ireturn, 1) := by decide +kernel
abbrev cX0_constant : ByteArray := prog_1_method_9_code
def yX0_constant : MethodName := ⟨RX0, "constant", "(II)Z"⟩
theorem dX0_constant_0 : decode cX0_constant 0 = .ok (.iload_n 0, 1) := by decide +kernel
theorem dX0_constant_1 : decode cX0_constant 1 = .ok (.iconst 4, 1) := by decide +kernel
theorem dX0_constant_2 : decode cX0_constant 2 = .ok (.if_icmp .ge 8, 3) := by decide +kernel
theorem dX0_constant_5 : decode cX0_constant 5 = .ok (.iload_n 0, 1) := by decide +kernel
theorem dX0_constant_6 : decode cX0_constant 6 = .ok (.iload_n 1, 1) := by decide +kernel
theorem dX0_constant_7 : decode cX0_constant 7 = .ok (.if_icmp .ne 7, 3) := by decide +kernel
theorem dX0_constant_10 : decode cX0_constant 10 = .ok (.iconst 1, 1) := by decide +kernel
theorem dX0_constant_11 : decode cX0_constant 11 = .ok (.goto 4, 3) := by decide +kernel
theorem dX0_constant_14 : decode cX0_constant 14 = .ok (.iconst 0, 1) := by decide +kernel
theorem dX0_constant_15 : decode cX0_constant 15 = .ok (.ireturn, 1) := by decide +kernel
abbrev cX0_partial : ByteArray := prog_1_method_31_code
def yX0_partial : MethodName := ⟨RX0, "partial", "(II)I"⟩
theorem dX0_partial_0 : decode cX0_partial 0 = .ok (.iload_n 1, 1) := by decide +kernel
theorem dX0_partial_1 : decode cX0_partial 1 = .ok (.invokestatic 100, 3) := by decide +kernel
theorem dX0_partial_4 : decode cX0_partial 4 = .ok (.ifCond .eq 26, 3) := by decide +kernel
theorem dX0_partial_7 : decode cX0_partial 7 = .ok (.iload_n 2, 1) := by decide +kernel
theorem dX0_partial_8 : decode cX0_partial 8 = .ok (.ifCond .lt 22, 3) := by decide +kernel
theorem dX0_partial_11 : decode cX0_partial 11 = .ok (.iload_n 2, 1) := by decide +kernel
theorem dX0_partial_12 : decode cX0_partial 12 = .ok (.aload_n 0, 1) := by decide +kernel
theorem dX0_partial_13 : decode cX0_partial 13 = .ok (.getfield 19, 3) := by decide +kernel
theorem dX0_partial_16 : decode cX0_partial 16 = .ok (.iload_n 1, 1) := by decide +kernel
theorem dX0_partial_17 : decode cX0_partial 17 = .ok (.baload, 1) := by decide +kernel
theorem dX0_partial_18 : decode cX0_partial 18 = .ok (.if_icmp .gt 12, 3) := by decide +kernel
theorem dX0_partial_21 : decode cX0_partial 21 = .ok (.aload_n 0, 1) := by decide +kernel
theorem dX0_partial_22 : decode cX0_partial 22 = .ok (.iload_n 1, 1) := by decide +kernel
theorem dX0_partial_23 : decode cX0_partial 23 = .ok (.iload_n 2, 1) := by decide +kernel
theorem dX0_partial_24 : decode cX0_partial 24 = .ok (.invokevirtual 110, 3) := by decide +kernel
theorem dX0_partial_27 : decode cX0_partial 27 = .ok (.goto 4, 3) := by decide +kernel
theorem dX0_partial_30 : decode cX0_partial 30 = .ok (.iconst (-1), 1) := by decide +kernel
theorem dX0_partial_31 : decode cX0_partial 31 = .ok (.ireturn, 1) := by decide +kernel
abbrev cX0_effect : ByteArray := prog_1_method_32_code
def yX0_effect : MethodName := ⟨RX0, "effect", "(IIII)I"⟩
theorem dX0_effect_0 : decode cX0_effect 0 = .ok (.iload_n 1, 1) := by decide +kernel
theorem dX0_effect_1 : decode cX0_effect 1 = .ok (.invokestatic 100, 3) := by decide +kernel
theorem dX0_effect_4 : decode cX0_effect 4 = .ok (.ifCond .eq 22, 3) := by decide +kernel
theorem dX0_effect_7 : decode cX0_effect 7 = .ok (.iload_n 2, 1) := by decide +kernel
theorem dX0_effect_8 : decode cX0_effect 8 = .ok (.iload_n 3, 1) := by decide +kernel
theorem dX0_effect_9 : decode cX0_effect 9 = .ok (.iload 4, 2) := by decide +kernel
theorem dX0_effect_11 : decode cX0_effect 11 = .ok (.invokestatic 107, 3) := by decide +kernel
theorem dX0_effect_14 : decode cX0_effect 14 = .ok (.ifCond .eq 12, 3) := by decide +kernel
theorem dX0_effect_17 : decode cX0_effect 17 = .ok (.aload_n 0, 1) := by decide +kernel
theorem dX0_effect_18 : decode cX0_effect 18 = .ok (.getfield 48, 3) := by decide +kernel
theorem dX0_effect_21 : decode cX0_effect 21 = .ok (.bipush 127, 2) := by decide +kernel
theorem dX0_effect_23 : decode cX0_effect 23 = .ok (.if_icmp .ne 7, 3) := by decide +kernel
theorem dX0_effect_26 : decode cX0_effect 26 = .ok (.sipush (-1000), 3) := by decide +kernel
theorem dX0_effect_29 : decode cX0_effect 29 = .ok (.ireturn, 1) := by decide +kernel
theorem dX0_effect_30 : decode cX0_effect 30 = .ok (.aload_n 0, 1) := by decide +kernel
theorem dX0_effect_31 : decode cX0_effect 31 = .ok (.iload_n 1, 1) := by decide +kernel
theorem dX0_effect_32 : decode cX0_effect 32 = .ok (.invokevirtual 114, 3) := by decide +kernel
theorem dX0_effect_35 : decode cX0_effect 35 = .ok (.istore 5, 2) := by decide +kernel
theorem dX0_effect_37 : decode cX0_effect 37 = .ok (.aload_n 0, 1) := by decide +kernel
theorem dX0_effect_38 : decode cX0_effect 38 = .ok (.iload_n 2, 1) := by decide +kernel
theorem dX0_effect_39 : decode cX0_effect 39 = .ok (.iload_n 3, 1) := by decide +kernel
theorem dX0_effect_40 : decode cX0_effect 40 = .ok (.iload 4, 2) := by decide +kernel
theorem dX0_effect_42 : decode cX0_effect 42 = .ok (.invokevirtual 123, 3) := by decide +kernel
theorem dX0_effect_45 : decode cX0_effect 45 = .ok (.istore 6, 2) := by decide +kernel
theorem dX0_effect_47 : decode cX0_effect 47 = .ok (.aload_n 0, 1) := by decide +kernel
theorem dX0_effect_48 : decode cX0_effect 48 = .ok (.iload_n 1, 1) := by decide +kernel
theorem dX0_effect_49 : decode cX0_effect 49 = .ok (.invokevirtual 114, 3) := by decide +kernel
theorem dX0_effect_52 : decode cX0_effect 52 = .ok (.istore 7, 2) := by decide +kernel
theorem dX0_effect_54 : decode cX0_effect 54 = .ok (.aload_n 0, 1) := by decide +kernel
theorem dX0_effect_55 : decode cX0_effect 55 = .ok (.iload 6, 2) := by decide +kernel
theorem dX0_effect_57 : decode cX0_effect 57 = .ok (.invokevirtual 126, 3) := by decide +kernel
theorem dX0_effect_60 : decode cX0_effect 60 = .ok (.pop, 1) := by decide +kernel
theorem dX0_effect_61 : decode cX0_effect 61 = .ok (.iload 7, 2) := by decide +kernel
theorem dX0_effect_63 : decode cX0_effect 63 = .ok (.iload 5, 2) := by decide +kernel
theorem dX0_effect_65 : decode cX0_effect 65 = .ok (.isub, 1) := by decide +kernel
theorem dX0_effect_66 : decode cX0_effect 66 = .ok (.ireturn, 1) := by decide +kernel
theorem q21 : (Jvm.Cond.initialized "ReteEngine") ∈ lw_all := lw_g (lw_at lw_m1 1 rfl) rfl
theorem q24 : (Jvm.Cond.instantiable "ReteEngine" (13 : Nat)) ∈ lw_all := lw_g (lw_at lw_m1 4 rfl) rfl
theorem q26 : (Jvm.Cond.instanceMethod ({ cls := "ReteEngine", name := "<init>", desc := "()V" } : Jvm.MethodName)) ∈ lw_all := lw_g (lw_at lw_m1 6 rfl) rfl
theorem q27 : (Jvm.Cond.code ({ cls := "ReteEngine", name := "<init>", desc := "()V" } : Jvm.MethodName) prog_1_method_1_code (2 : Nat) (Option.none : Option Jvm.ClassFile.FieldType)) ∈ lw_all := lw_g (lw_at lw_m1 7 rfl) rfl
theorem q28 : (Jvm.Cond.methodLink "ReteEngine" (1 : Nat) ({ cls := "java/lang/Object", name := "<init>", desc := "()V" } : Jvm.MethodName)) ∈ lw_all := lw_g (lw_at lw_m1 8 rfl) rfl
theorem q31 : (Jvm.Cond.fieldLink "ReteEngine" (48 : Nat) "ReteEngine" "present" "I") ∈ lw_all := lw_g (lw_at lw_m1 11 rfl) rfl
theorem q32 : (Jvm.Cond.fieldLink "ReteEngine" (7 : Nat) "ReteEngine" "kinds" "[B") ∈ lw_all := lw_g (lw_at lw_m1 12 rfl) rfl
theorem q33 : (Jvm.Cond.fieldLink "ReteEngine" (13 : Nat) "ReteEngine" "as" "[B") ∈ lw_all := lw_g (lw_at lw_m1 13 rfl) rfl
theorem q34 : (Jvm.Cond.fieldLink "ReteEngine" (16 : Nat) "ReteEngine" "bs" "[B") ∈ lw_all := lw_g (lw_at lw_m1 14 rfl) rfl
theorem q35 : (Jvm.Cond.fieldLink "ReteEngine" (19 : Nat) "ReteEngine" "sizes" "[B") ∈ lw_all := lw_g (lw_at lw_m1 15 rfl) rfl
theorem q36 : (Jvm.Cond.fieldLink "ReteEngine" (22 : Nat) "ReteEngine" "wantedKind" "[B") ∈ lw_all := lw_g (lw_at lw_m1 16 rfl) rfl
theorem q37 : (Jvm.Cond.fieldLink "ReteEngine" (25 : Nat) "ReteEngine" "wantedA" "[B") ∈ lw_all := lw_g (lw_at lw_m1 17 rfl) rfl
theorem q38 : (Jvm.Cond.fieldLink "ReteEngine" (28 : Nat) "ReteEngine" "wantedB" "[B") ∈ lw_all := lw_g (lw_at lw_m1 18 rfl) rfl
theorem q39 : (Jvm.Cond.fieldLink "ReteEngine" (31 : Nat) "ReteEngine" "negated" "[Z") ∈ lw_all := lw_g (lw_at lw_m1 19 rfl) rfl
theorem q40 : (Jvm.Cond.fieldLink "ReteEngine" (35 : Nat) "ReteEngine" "words" "[J") ∈ lw_all := lw_g (lw_at lw_m1 20 rfl) rfl
theorem q41 : (Jvm.Cond.fieldLink "ReteEngine" (39 : Nat) "ReteEngine" "before" "[J") ∈ lw_all := lw_g (lw_at lw_m1 21 rfl) rfl
theorem q42 : (Jvm.Cond.fieldLink "ReteEngine" (42 : Nat) "ReteEngine" "bound" "[B") ∈ lw_all := lw_g (lw_at lw_m1 22 rfl) rfl
theorem q43 : (Jvm.Cond.fieldLink "ReteEngine" (45 : Nat) "ReteEngine" "tentative" "[B") ∈ lw_all := lw_g (lw_at lw_m1 23 rfl) rfl
theorem q44 : (Jvm.Cond.lays "ReteEngine" "ReteEngine" "present" "I") ∈ lw_all := lw_g (lw_at lw_m1 24 rfl) rfl
theorem q45 : (Jvm.Cond.soleField "ReteEngine" "present") ∈ lw_all := lw_g (lw_at lw_m1 25 rfl) rfl
theorem q46 : (Jvm.Cond.laysFinal "ReteEngine" "ReteEngine" "kinds" "[B") ∈ lw_all := lw_g (lw_at lw_m1 26 rfl) rfl
theorem q47 : (Jvm.Cond.soleField "ReteEngine" "kinds") ∈ lw_all := lw_g (lw_at lw_m1 27 rfl) rfl
theorem q48 : (Jvm.Cond.laysFinal "ReteEngine" "ReteEngine" "as" "[B") ∈ lw_all := lw_g (lw_at lw_m1 28 rfl) rfl
theorem q49 : (Jvm.Cond.soleField "ReteEngine" "as") ∈ lw_all := lw_g (lw_at lw_m1 29 rfl) rfl
theorem q50 : (Jvm.Cond.laysFinal "ReteEngine" "ReteEngine" "bs" "[B") ∈ lw_all := lw_g (lw_at lw_m1 30 rfl) rfl
theorem q51 : (Jvm.Cond.soleField "ReteEngine" "bs") ∈ lw_all := lw_g (lw_at lw_m1 31 rfl) rfl
theorem q52 : (Jvm.Cond.laysFinal "ReteEngine" "ReteEngine" "sizes" "[B") ∈ lw_all := lw_g (lw_at lw_m1 32 rfl) rfl
theorem q53 : (Jvm.Cond.soleField "ReteEngine" "sizes") ∈ lw_all := lw_g (lw_at lw_m1 33 rfl) rfl
theorem q54 : (Jvm.Cond.laysFinal "ReteEngine" "ReteEngine" "wantedKind" "[B") ∈ lw_all := lw_g (lw_at lw_m1 34 rfl) rfl
theorem q55 : (Jvm.Cond.soleField "ReteEngine" "wantedKind") ∈ lw_all := lw_g (lw_at lw_m1 35 rfl) rfl
theorem q56 : (Jvm.Cond.laysFinal "ReteEngine" "ReteEngine" "wantedA" "[B") ∈ lw_all := lw_g (lw_at lw_m1 36 rfl) rfl
theorem q57 : (Jvm.Cond.soleField "ReteEngine" "wantedA") ∈ lw_all := lw_g (lw_at lw_m1 37 rfl) rfl
theorem q58 : (Jvm.Cond.laysFinal "ReteEngine" "ReteEngine" "wantedB" "[B") ∈ lw_all := lw_g (lw_at lw_m1 38 rfl) rfl
theorem q59 : (Jvm.Cond.soleField "ReteEngine" "wantedB") ∈ lw_all := lw_g (lw_at lw_m1 39 rfl) rfl
theorem q60 : (Jvm.Cond.laysFinal "ReteEngine" "ReteEngine" "negated" "[Z") ∈ lw_all := lw_g (lw_at lw_m1 40 rfl) rfl
theorem q61 : (Jvm.Cond.soleField "ReteEngine" "negated") ∈ lw_all := lw_g (lw_at lw_m1 41 rfl) rfl
theorem q62 : (Jvm.Cond.laysFinal "ReteEngine" "ReteEngine" "words" "[J") ∈ lw_all := lw_g (lw_at lw_m1 42 rfl) rfl
theorem q63 : (Jvm.Cond.soleField "ReteEngine" "words") ∈ lw_all := lw_g (lw_at lw_m1 43 rfl) rfl
theorem q64 : (Jvm.Cond.laysFinal "ReteEngine" "ReteEngine" "before" "[J") ∈ lw_all := lw_g (lw_at lw_m1 44 rfl) rfl
theorem q65 : (Jvm.Cond.soleField "ReteEngine" "before") ∈ lw_all := lw_g (lw_at lw_m1 45 rfl) rfl
theorem q66 : (Jvm.Cond.laysFinal "ReteEngine" "ReteEngine" "bound" "[B") ∈ lw_all := lw_g (lw_at lw_m1 46 rfl) rfl
theorem q67 : (Jvm.Cond.soleField "ReteEngine" "bound") ∈ lw_all := lw_g (lw_at lw_m1 47 rfl) rfl
theorem q68 : (Jvm.Cond.laysFinal "ReteEngine" "ReteEngine" "tentative" "[B") ∈ lw_all := lw_g (lw_at lw_m1 48 rfl) rfl
theorem q69 : (Jvm.Cond.soleField "ReteEngine" "tentative") ∈ lw_all := lw_g (lw_at lw_m1 49 rfl) rfl
theorem q70 : (Jvm.Cond.superclass "ReteEngine" "java/lang/Object") ∈ lw_all := lw_g (lw_at lw_m1 50 rfl) rfl
theorem q75 : (Jvm.Cond.instanceMethod ({ cls := "ReteEngine", name := "condition", desc := "(II)I" } : Jvm.MethodName)) ∈ lw_all := lw_g (lw_at lw_m1 55 rfl) rfl
theorem q76 : (Jvm.Cond.selects "ReteEngine" ({ cls := "ReteEngine", name := "condition", desc := "(II)I" } : Jvm.MethodName) ({ cls := "ReteEngine", name := "condition", desc := "(II)I" } : Jvm.MethodName)) ∈ lw_all := lw_g (lw_at lw_m1 56 rfl) rfl
theorem q77 : (Jvm.Cond.code ({ cls := "ReteEngine", name := "condition", desc := "(II)I" } : Jvm.MethodName) prog_1_method_18_code (4 : Nat) (Option.some Jvm.ClassFile.FieldType.int)) ∈ lw_all := lw_g (lw_at lw_m1 57 rfl) rfl
theorem q78 : (Jvm.Cond.methodLink "ReteEngine" (100 : Nat) ({ cls := "ReteEngine", name := "isRule", desc := "(I)Z" } : Jvm.MethodName)) ∈ lw_all := lw_g (lw_at lw_m1 58 rfl) rfl
theorem q79 : (Jvm.Cond.static ({ cls := "ReteEngine", name := "isRule", desc := "(I)Z" } : Jvm.MethodName)) ∈ lw_all := lw_g (lw_at lw_m1 59 rfl) rfl
theorem q80 : (Jvm.Cond.code ({ cls := "ReteEngine", name := "isRule", desc := "(I)Z" } : Jvm.MethodName) prog_1_method_2_code (1 : Nat) (Option.some Jvm.ClassFile.FieldType.boolean)) ∈ lw_all := lw_g (lw_at lw_m1 60 rfl) rfl
theorem q81 : (Jvm.Cond.methodLink "ReteEngine" (103 : Nat) ({ cls := "ReteEngine", name := "update", desc := "(IIZ)V" } : Jvm.MethodName)) ∈ lw_all := lw_g (lw_at lw_m1 61 rfl) rfl
theorem q82 : (Jvm.Cond.privateMethod ({ cls := "ReteEngine", name := "update", desc := "(IIZ)V" } : Jvm.MethodName)) ∈ lw_tbl := lw_at lw_m1 62 rfl
theorem q83 : (Jvm.Cond.instanceMethod ({ cls := "ReteEngine", name := "update", desc := "(IIZ)V" } : Jvm.MethodName)) ∈ lw_all := lw_g (lw_at lw_m1 63 rfl) rfl
theorem q84 : (Jvm.Cond.code ({ cls := "ReteEngine", name := "update", desc := "(IIZ)V" } : Jvm.MethodName) prog_1_method_14_code (6 : Nat) (Option.none : Option Jvm.ClassFile.FieldType)) ∈ lw_all := lw_g (lw_at lw_m1 64 rfl) rfl
theorem q85 : (Jvm.Cond.methodLink "ReteEngine" (67 : Nat) ({ cls := "ReteEngine", name := "codes", desc := "(I)I" } : Jvm.MethodName)) ∈ lw_all := lw_g (lw_at lw_m1 65 rfl) rfl
theorem q86 : (Jvm.Cond.static ({ cls := "ReteEngine", name := "codes", desc := "(I)I" } : Jvm.MethodName)) ∈ lw_all := lw_g (lw_at lw_m1 66 rfl) rfl
theorem q87 : (Jvm.Cond.code ({ cls := "ReteEngine", name := "codes", desc := "(I)I" } : Jvm.MethodName) prog_1_method_8_code (1 : Nat) (Option.some Jvm.ClassFile.FieldType.int)) ∈ lw_all := lw_g (lw_at lw_m1 67 rfl) rfl
theorem q88 : (Jvm.Cond.methodLink "ReteEngine" (71 : Nat) ({ cls := "ReteEngine", name := "isIn", desc := "(III)Z" } : Jvm.MethodName)) ∈ lw_all := lw_g (lw_at lw_m1 68 rfl) rfl
theorem q89 : (Jvm.Cond.privateMethod ({ cls := "ReteEngine", name := "isIn", desc := "(III)Z" } : Jvm.MethodName)) ∈ lw_tbl := lw_at lw_m1 69 rfl
theorem q90 : (Jvm.Cond.instanceMethod ({ cls := "ReteEngine", name := "isIn", desc := "(III)Z" } : Jvm.MethodName)) ∈ lw_all := lw_g (lw_at lw_m1 70 rfl) rfl
theorem q91 : (Jvm.Cond.code ({ cls := "ReteEngine", name := "isIn", desc := "(III)Z" } : Jvm.MethodName) prog_1_method_5_code (5 : Nat) (Option.some Jvm.ClassFile.FieldType.boolean)) ∈ lw_all := lw_g (lw_at lw_m1 71 rfl) rfl
theorem q92 : (Jvm.Cond.methodLink "ReteEngine" (52 : Nat) ({ cls := "ReteEngine", name := "wordOf", desc := "(III)I" } : Jvm.MethodName)) ∈ lw_all := lw_g (lw_at lw_m1 72 rfl) rfl
theorem q93 : (Jvm.Cond.static ({ cls := "ReteEngine", name := "wordOf", desc := "(III)I" } : Jvm.MethodName)) ∈ lw_all := lw_g (lw_at lw_m1 73 rfl) rfl
theorem q94 : (Jvm.Cond.code ({ cls := "ReteEngine", name := "wordOf", desc := "(III)I" } : Jvm.MethodName) prog_1_method_4_code (3 : Nat) (Option.some Jvm.ClassFile.FieldType.int)) ∈ lw_all := lw_g (lw_at lw_m1 74 rfl) rfl
theorem q95 : (Jvm.Cond.methodLink "ReteEngine" (75 : Nat) ({ cls := "ReteEngine", name := "extend", desc := "(IIIIZ)V" } : Jvm.MethodName)) ∈ lw_all := lw_g (lw_at lw_m1 75 rfl) rfl
theorem q96 : (Jvm.Cond.privateMethod ({ cls := "ReteEngine", name := "extend", desc := "(IIIIZ)V" } : Jvm.MethodName)) ∈ lw_tbl := lw_at lw_m1 76 rfl
theorem q97 : (Jvm.Cond.instanceMethod ({ cls := "ReteEngine", name := "extend", desc := "(IIIIZ)V" } : Jvm.MethodName)) ∈ lw_all := lw_g (lw_at lw_m1 77 rfl) rfl
theorem q98 : (Jvm.Cond.code ({ cls := "ReteEngine", name := "extend", desc := "(IIIIZ)V" } : Jvm.MethodName) prog_1_method_15_code (12 : Nat) (Option.none : Option Jvm.ClassFile.FieldType)) ∈ lw_all := lw_g (lw_at lw_m1 78 rfl) rfl
theorem q99 : (Jvm.Cond.methodLink "ReteEngine" (79 : Nat) ({ cls := "ReteEngine", name := "wasIn", desc := "(III)Z" } : Jvm.MethodName)) ∈ lw_all := lw_g (lw_at lw_m1 79 rfl) rfl
theorem q100 : (Jvm.Cond.privateMethod ({ cls := "ReteEngine", name := "wasIn", desc := "(III)Z" } : Jvm.MethodName)) ∈ lw_tbl := lw_at lw_m1 80 rfl
theorem q101 : (Jvm.Cond.instanceMethod ({ cls := "ReteEngine", name := "wasIn", desc := "(III)Z" } : Jvm.MethodName)) ∈ lw_all := lw_g (lw_at lw_m1 81 rfl) rfl
theorem q102 : (Jvm.Cond.code ({ cls := "ReteEngine", name := "wasIn", desc := "(III)Z" } : Jvm.MethodName) prog_1_method_6_code (5 : Nat) (Option.some Jvm.ClassFile.FieldType.boolean)) ∈ lw_all := lw_g (lw_at lw_m1 82 rfl) rfl
theorem q103 : (Jvm.Cond.methodLink "ReteEngine" (82 : Nat) ({ cls := "ReteEngine", name := "bindAlong", desc := "(III)V" } : Jvm.MethodName)) ∈ lw_all := lw_g (lw_at lw_m1 83 rfl) rfl
theorem q104 : (Jvm.Cond.privateMethod ({ cls := "ReteEngine", name := "bindAlong", desc := "(III)V" } : Jvm.MethodName)) ∈ lw_tbl := lw_at lw_m1 84 rfl
theorem q105 : (Jvm.Cond.instanceMethod ({ cls := "ReteEngine", name := "bindAlong", desc := "(III)V" } : Jvm.MethodName)) ∈ lw_all := lw_g (lw_at lw_m1 85 rfl) rfl
theorem q106 : (Jvm.Cond.code ({ cls := "ReteEngine", name := "bindAlong", desc := "(III)V" } : Jvm.MethodName) prog_1_method_13_code (6 : Nat) (Option.none : Option Jvm.ClassFile.FieldType)) ∈ lw_all := lw_g (lw_at lw_m1 86 rfl) rfl
theorem q107 : (Jvm.Cond.methodLink "ReteEngine" (63 : Nat) ({ cls := "ReteEngine", name := "fits", desc := "(IIZ)Z" } : Jvm.MethodName)) ∈ lw_all := lw_g (lw_at lw_m1 87 rfl) rfl
theorem q108 : (Jvm.Cond.privateMethod ({ cls := "ReteEngine", name := "fits", desc := "(IIZ)Z" } : Jvm.MethodName)) ∈ lw_tbl := lw_at lw_m1 88 rfl
theorem q109 : (Jvm.Cond.instanceMethod ({ cls := "ReteEngine", name := "fits", desc := "(IIZ)Z" } : Jvm.MethodName)) ∈ lw_all := lw_g (lw_at lw_m1 89 rfl) rfl
theorem q110 : (Jvm.Cond.code ({ cls := "ReteEngine", name := "fits", desc := "(IIZ)Z" } : Jvm.MethodName) prog_1_method_12_code (6 : Nat) (Option.some Jvm.ClassFile.FieldType.boolean)) ∈ lw_all := lw_g (lw_at lw_m1 90 rfl) rfl
theorem q111 : (Jvm.Cond.methodLink "ReteEngine" (60 : Nat) ({ cls := "ReteEngine", name := "meets", desc := "(II)Z" } : Jvm.MethodName)) ∈ lw_all := lw_g (lw_at lw_m1 91 rfl) rfl
theorem q112 : (Jvm.Cond.privateMethod ({ cls := "ReteEngine", name := "meets", desc := "(II)Z" } : Jvm.MethodName)) ∈ lw_tbl := lw_at lw_m1 92 rfl
theorem q113 : (Jvm.Cond.instanceMethod ({ cls := "ReteEngine", name := "meets", desc := "(II)Z" } : Jvm.MethodName)) ∈ lw_all := lw_g (lw_at lw_m1 93 rfl) rfl
theorem q114 : (Jvm.Cond.code ({ cls := "ReteEngine", name := "meets", desc := "(II)Z" } : Jvm.MethodName) prog_1_method_11_code (4 : Nat) (Option.some Jvm.ClassFile.FieldType.boolean)) ∈ lw_all := lw_g (lw_at lw_m1 94 rfl) rfl
theorem q115 : (Jvm.Cond.methodLink "ReteEngine" (86 : Nat) ({ cls := "ReteEngine", name := "extendNegated", desc := "(IIIZIZ)V" } : Jvm.MethodName)) ∈ lw_all := lw_g (lw_at lw_m1 95 rfl) rfl
theorem q116 : (Jvm.Cond.privateMethod ({ cls := "ReteEngine", name := "extendNegated", desc := "(IIIZIZ)V" } : Jvm.MethodName)) ∈ lw_tbl := lw_at lw_m1 96 rfl
theorem q117 : (Jvm.Cond.instanceMethod ({ cls := "ReteEngine", name := "extendNegated", desc := "(IIIZIZ)V" } : Jvm.MethodName)) ∈ lw_all := lw_g (lw_at lw_m1 97 rfl) rfl
theorem q118 : (Jvm.Cond.code ({ cls := "ReteEngine", name := "extendNegated", desc := "(IIIZIZ)V" } : Jvm.MethodName) prog_1_method_16_code (11 : Nat) (Option.none : Option Jvm.ClassFile.FieldType)) ∈ lw_all := lw_g (lw_at lw_m1 98 rfl) rfl
theorem q119 : (Jvm.Cond.methodLink "ReteEngine" (97 : Nat) ({ cls := "ReteEngine", name := "anyFits", desc := "(I)Z" } : Jvm.MethodName)) ∈ lw_all := lw_g (lw_at lw_m1 99 rfl) rfl
theorem q120 : (Jvm.Cond.privateMethod ({ cls := "ReteEngine", name := "anyFits", desc := "(I)Z" } : Jvm.MethodName)) ∈ lw_tbl := lw_at lw_m1 100 rfl
theorem q121 : (Jvm.Cond.instanceMethod ({ cls := "ReteEngine", name := "anyFits", desc := "(I)Z" } : Jvm.MethodName)) ∈ lw_all := lw_g (lw_at lw_m1 101 rfl) rfl
theorem q122 : (Jvm.Cond.code ({ cls := "ReteEngine", name := "anyFits", desc := "(I)Z" } : Jvm.MethodName) prog_1_method_17_code (3 : Nat) (Option.some Jvm.ClassFile.FieldType.boolean)) ∈ lw_all := lw_g (lw_at lw_m1 102 rfl) rfl
theorem q123 : (Jvm.Cond.methodLink "ReteEngine" (90 : Nat) ({ cls := "ReteEngine", name := "has", desc := "(I)Z" } : Jvm.MethodName)) ∈ lw_all := lw_g (lw_at lw_m1 103 rfl) rfl
theorem q124 : (Jvm.Cond.privateMethod ({ cls := "ReteEngine", name := "has", desc := "(I)Z" } : Jvm.MethodName)) ∈ lw_tbl := lw_at lw_m1 104 rfl
theorem q125 : (Jvm.Cond.instanceMethod ({ cls := "ReteEngine", name := "has", desc := "(I)Z" } : Jvm.MethodName)) ∈ lw_all := lw_g (lw_at lw_m1 105 rfl) rfl
theorem q126 : (Jvm.Cond.code ({ cls := "ReteEngine", name := "has", desc := "(I)Z" } : Jvm.MethodName) prog_1_method_3_code (2 : Nat) (Option.some Jvm.ClassFile.FieldType.boolean)) ∈ lw_all := lw_g (lw_at lw_m1 106 rfl) rfl
theorem q127 : (Jvm.Cond.methodLink "ReteEngine" (94 : Nat) ({ cls := "ReteEngine", name := "put", desc := "(III)V" } : Jvm.MethodName)) ∈ lw_all := lw_g (lw_at lw_m1 107 rfl) rfl
theorem q128 : (Jvm.Cond.privateMethod ({ cls := "ReteEngine", name := "put", desc := "(III)V" } : Jvm.MethodName)) ∈ lw_tbl := lw_at lw_m1 108 rfl
theorem q129 : (Jvm.Cond.instanceMethod ({ cls := "ReteEngine", name := "put", desc := "(III)V" } : Jvm.MethodName)) ∈ lw_all := lw_g (lw_at lw_m1 109 rfl) rfl
theorem q130 : (Jvm.Cond.code ({ cls := "ReteEngine", name := "put", desc := "(III)V" } : Jvm.MethodName) prog_1_method_7_code (5 : Nat) (Option.none : Option Jvm.ClassFile.FieldType)) ∈ lw_all := lw_g (lw_at lw_m1 110 rfl) rfl
theorem q132 : (Jvm.Cond.instanceMethod ({ cls := "ReteEngine", name := "drop", desc := "(I)I" } : Jvm.MethodName)) ∈ lw_all := lw_g (lw_at lw_m1 112 rfl) rfl
theorem q133 : (Jvm.Cond.selects "ReteEngine" ({ cls := "ReteEngine", name := "drop", desc := "(I)I" } : Jvm.MethodName) ({ cls := "ReteEngine", name := "drop", desc := "(I)I" } : Jvm.MethodName)) ∈ lw_all := lw_g (lw_at lw_m1 113 rfl) rfl
theorem q134 : (Jvm.Cond.code ({ cls := "ReteEngine", name := "drop", desc := "(I)I" } : Jvm.MethodName) prog_1_method_19_code (2 : Nat) (Option.some Jvm.ClassFile.FieldType.int)) ∈ lw_all := lw_g (lw_at lw_m1 114 rfl) rfl
theorem q136 : (Jvm.Cond.instanceMethod ({ cls := "ReteEngine", name := "add", desc := "(III)I" } : Jvm.MethodName)) ∈ lw_all := lw_g (lw_at lw_m1 116 rfl) rfl
theorem q137 : (Jvm.Cond.selects "ReteEngine" ({ cls := "ReteEngine", name := "add", desc := "(III)I" } : Jvm.MethodName) ({ cls := "ReteEngine", name := "add", desc := "(III)I" } : Jvm.MethodName)) ∈ lw_all := lw_g (lw_at lw_m1 117 rfl) rfl
theorem q138 : (Jvm.Cond.code ({ cls := "ReteEngine", name := "add", desc := "(III)I" } : Jvm.MethodName) prog_1_method_21_code (6 : Nat) (Option.some Jvm.ClassFile.FieldType.int)) ∈ lw_all := lw_g (lw_at lw_m1 118 rfl) rfl
theorem q139 : (Jvm.Cond.methodLink "ReteEngine" (107 : Nat) ({ cls := "ReteEngine", name := "factOk", desc := "(III)Z" } : Jvm.MethodName)) ∈ lw_all := lw_g (lw_at lw_m1 119 rfl) rfl
theorem q140 : (Jvm.Cond.static ({ cls := "ReteEngine", name := "factOk", desc := "(III)Z" } : Jvm.MethodName)) ∈ lw_all := lw_g (lw_at lw_m1 120 rfl) rfl
theorem q141 : (Jvm.Cond.code ({ cls := "ReteEngine", name := "factOk", desc := "(III)Z" } : Jvm.MethodName) prog_1_method_20_code (3 : Nat) (Option.some Jvm.ClassFile.FieldType.boolean)) ∈ lw_all := lw_g (lw_at lw_m1 121 rfl) rfl
theorem q143 : (Jvm.Cond.instanceMethod ({ cls := "ReteEngine", name := "remove", desc := "(I)Z" } : Jvm.MethodName)) ∈ lw_all := lw_g (lw_at lw_m1 123 rfl) rfl
theorem q144 : (Jvm.Cond.selects "ReteEngine" ({ cls := "ReteEngine", name := "remove", desc := "(I)Z" } : Jvm.MethodName) ({ cls := "ReteEngine", name := "remove", desc := "(I)Z" } : Jvm.MethodName)) ∈ lw_all := lw_g (lw_at lw_m1 124 rfl) rfl
theorem q145 : (Jvm.Cond.code ({ cls := "ReteEngine", name := "remove", desc := "(I)Z" } : Jvm.MethodName) prog_1_method_22_code (3 : Nat) (Option.some Jvm.ClassFile.FieldType.boolean)) ∈ lw_all := lw_g (lw_at lw_m1 125 rfl) rfl
theorem q147 : (Jvm.Cond.instanceMethod ({ cls := "ReteEngine", name := "facts", desc := "()I" } : Jvm.MethodName)) ∈ lw_all := lw_g (lw_at lw_m1 127 rfl) rfl
theorem q148 : (Jvm.Cond.selects "ReteEngine" ({ cls := "ReteEngine", name := "facts", desc := "()I" } : Jvm.MethodName) ({ cls := "ReteEngine", name := "facts", desc := "()I" } : Jvm.MethodName)) ∈ lw_all := lw_g (lw_at lw_m1 128 rfl) rfl
theorem q149 : (Jvm.Cond.code ({ cls := "ReteEngine", name := "facts", desc := "()I" } : Jvm.MethodName) prog_1_method_23_code (1 : Nat) (Option.some Jvm.ClassFile.FieldType.int)) ∈ lw_all := lw_g (lw_at lw_m1 129 rfl) rfl
theorem q151 : (Jvm.Cond.instanceMethod ({ cls := "ReteEngine", name := "matches", desc := "(I)I" } : Jvm.MethodName)) ∈ lw_all := lw_g (lw_at lw_m1 131 rfl) rfl
theorem q152 : (Jvm.Cond.selects "ReteEngine" ({ cls := "ReteEngine", name := "matches", desc := "(I)I" } : Jvm.MethodName) ({ cls := "ReteEngine", name := "matches", desc := "(I)I" } : Jvm.MethodName)) ∈ lw_all := lw_g (lw_at lw_m1 132 rfl) rfl
theorem q153 : (Jvm.Cond.code ({ cls := "ReteEngine", name := "matches", desc := "(I)I" } : Jvm.MethodName) prog_1_method_25_code (2 : Nat) (Option.some Jvm.ClassFile.FieldType.int)) ∈ lw_all := lw_g (lw_at lw_m1 133 rfl) rfl
theorem q154 : (Jvm.Cond.methodLink "ReteEngine" (110 : Nat) ({ cls := "ReteEngine", name := "countAt", desc := "(II)I" } : Jvm.MethodName)) ∈ lw_all := lw_g (lw_at lw_m1 134 rfl) rfl
theorem q155 : (Jvm.Cond.privateMethod ({ cls := "ReteEngine", name := "countAt", desc := "(II)I" } : Jvm.MethodName)) ∈ lw_tbl := lw_at lw_m1 135 rfl
theorem q156 : (Jvm.Cond.instanceMethod ({ cls := "ReteEngine", name := "countAt", desc := "(II)I" } : Jvm.MethodName)) ∈ lw_all := lw_g (lw_at lw_m1 136 rfl) rfl
theorem q157 : (Jvm.Cond.code ({ cls := "ReteEngine", name := "countAt", desc := "(II)I" } : Jvm.MethodName) prog_1_method_24_code (5 : Nat) (Option.some Jvm.ClassFile.FieldType.int)) ∈ lw_all := lw_g (lw_at lw_m1 137 rfl) rfl
theorem q159 : (Jvm.Cond.instanceMethod ({ cls := "ReteEngine", name := "match", desc := "(II)I" } : Jvm.MethodName)) ∈ lw_all := lw_g (lw_at lw_m1 139 rfl) rfl
theorem q160 : (Jvm.Cond.selects "ReteEngine" ({ cls := "ReteEngine", name := "match", desc := "(II)I" } : Jvm.MethodName) ({ cls := "ReteEngine", name := "match", desc := "(II)I" } : Jvm.MethodName)) ∈ lw_all := lw_g (lw_at lw_m1 140 rfl) rfl
theorem q161 : (Jvm.Cond.code ({ cls := "ReteEngine", name := "match", desc := "(II)I" } : Jvm.MethodName) prog_1_method_26_code (7 : Nat) (Option.some Jvm.ClassFile.FieldType.int)) ∈ lw_all := lw_g (lw_at lw_m1 141 rfl) rfl
theorem q163 : (Jvm.Cond.instanceMethod ({ cls := "ReteEngine", name := "ready", desc := "()I" } : Jvm.MethodName)) ∈ lw_all := lw_g (lw_at lw_m1 143 rfl) rfl
theorem q164 : (Jvm.Cond.selects "ReteEngine" ({ cls := "ReteEngine", name := "ready", desc := "()I" } : Jvm.MethodName) ({ cls := "ReteEngine", name := "ready", desc := "()I" } : Jvm.MethodName)) ∈ lw_all := lw_g (lw_at lw_m1 144 rfl) rfl
theorem q165 : (Jvm.Cond.code ({ cls := "ReteEngine", name := "ready", desc := "()I" } : Jvm.MethodName) prog_1_method_27_code (3 : Nat) (Option.some Jvm.ClassFile.FieldType.int)) ∈ lw_all := lw_g (lw_at lw_m1 145 rfl) rfl
theorem q166 : (Jvm.Cond.methodLink "ReteEngine" (114 : Nat) ({ cls := "ReteEngine", name := "matches", desc := "(I)I" } : Jvm.MethodName)) ∈ lw_all := lw_g (lw_at lw_m1 146 rfl) rfl
theorem q168 : (Jvm.Cond.instanceMethod ({ cls := "ReteEngine", name := "uses", desc := "(I)I" } : Jvm.MethodName)) ∈ lw_all := lw_g (lw_at lw_m1 148 rfl) rfl
theorem q169 : (Jvm.Cond.selects "ReteEngine" ({ cls := "ReteEngine", name := "uses", desc := "(I)I" } : Jvm.MethodName) ({ cls := "ReteEngine", name := "uses", desc := "(I)I" } : Jvm.MethodName)) ∈ lw_all := lw_g (lw_at lw_m1 149 rfl) rfl
theorem q170 : (Jvm.Cond.code ({ cls := "ReteEngine", name := "uses", desc := "(I)I" } : Jvm.MethodName) prog_1_method_28_code (6 : Nat) (Option.some Jvm.ClassFile.FieldType.int)) ∈ lw_all := lw_g (lw_at lw_m1 150 rfl) rfl
theorem q171 : (Jvm.Cond.methodLink "ReteEngine" (117 : Nat) ({ cls := "ReteEngine", name := "holds", desc := "(III)Z" } : Jvm.MethodName)) ∈ lw_all := lw_g (lw_at lw_m1 151 rfl) rfl
theorem q172 : (Jvm.Cond.static ({ cls := "ReteEngine", name := "holds", desc := "(III)Z" } : Jvm.MethodName)) ∈ lw_all := lw_g (lw_at lw_m1 152 rfl) rfl
theorem q173 : (Jvm.Cond.code ({ cls := "ReteEngine", name := "holds", desc := "(III)Z" } : Jvm.MethodName) prog_1_method_29_code (4 : Nat) (Option.some Jvm.ClassFile.FieldType.boolean)) ∈ lw_all := lw_g (lw_at lw_m1 153 rfl) rfl
theorem q175 : (Jvm.Cond.instanceMethod ({ cls := "ReteEngine", name := "fitting", desc := "(II)I" } : Jvm.MethodName)) ∈ lw_all := lw_g (lw_at lw_m1 155 rfl) rfl
theorem q176 : (Jvm.Cond.selects "ReteEngine" ({ cls := "ReteEngine", name := "fitting", desc := "(II)I" } : Jvm.MethodName) ({ cls := "ReteEngine", name := "fitting", desc := "(II)I" } : Jvm.MethodName)) ∈ lw_all := lw_g (lw_at lw_m1 156 rfl) rfl
theorem q177 : (Jvm.Cond.code ({ cls := "ReteEngine", name := "fitting", desc := "(II)I" } : Jvm.MethodName) prog_1_method_30_code (5 : Nat) (Option.some Jvm.ClassFile.FieldType.int)) ∈ lw_all := lw_g (lw_at lw_m1 157 rfl) rfl
theorem q178 : (Jvm.Cond.methodLink "ReteEngine" (120 : Nat) ({ cls := "ReteEngine", name := "looksRight", desc := "(II)Z" } : Jvm.MethodName)) ∈ lw_all := lw_g (lw_at lw_m1 158 rfl) rfl
theorem q179 : (Jvm.Cond.privateMethod ({ cls := "ReteEngine", name := "looksRight", desc := "(II)Z" } : Jvm.MethodName)) ∈ lw_tbl := lw_at lw_m1 159 rfl
theorem q180 : (Jvm.Cond.instanceMethod ({ cls := "ReteEngine", name := "looksRight", desc := "(II)Z" } : Jvm.MethodName)) ∈ lw_all := lw_g (lw_at lw_m1 160 rfl) rfl
theorem q181 : (Jvm.Cond.code ({ cls := "ReteEngine", name := "looksRight", desc := "(II)Z" } : Jvm.MethodName) prog_1_method_10_code (3 : Nat) (Option.some Jvm.ClassFile.FieldType.boolean)) ∈ lw_all := lw_g (lw_at lw_m1 161 rfl) rfl
theorem q182 : (Jvm.Cond.methodLink "ReteEngine" (56 : Nat) ({ cls := "ReteEngine", name := "constant", desc := "(II)Z" } : Jvm.MethodName)) ∈ lw_all := lw_g (lw_at lw_m1 162 rfl) rfl
theorem q183 : (Jvm.Cond.static ({ cls := "ReteEngine", name := "constant", desc := "(II)Z" } : Jvm.MethodName)) ∈ lw_all := lw_g (lw_at lw_m1 163 rfl) rfl
theorem q184 : (Jvm.Cond.code ({ cls := "ReteEngine", name := "constant", desc := "(II)Z" } : Jvm.MethodName) prog_1_method_9_code (2 : Nat) (Option.some Jvm.ClassFile.FieldType.boolean)) ∈ lw_all := lw_g (lw_at lw_m1 164 rfl) rfl
theorem q186 : (Jvm.Cond.instanceMethod ({ cls := "ReteEngine", name := "partial", desc := "(II)I" } : Jvm.MethodName)) ∈ lw_all := lw_g (lw_at lw_m1 166 rfl) rfl
theorem q187 : (Jvm.Cond.selects "ReteEngine" ({ cls := "ReteEngine", name := "partial", desc := "(II)I" } : Jvm.MethodName) ({ cls := "ReteEngine", name := "partial", desc := "(II)I" } : Jvm.MethodName)) ∈ lw_all := lw_g (lw_at lw_m1 167 rfl) rfl
theorem q188 : (Jvm.Cond.code ({ cls := "ReteEngine", name := "partial", desc := "(II)I" } : Jvm.MethodName) prog_1_method_31_code (3 : Nat) (Option.some Jvm.ClassFile.FieldType.int)) ∈ lw_all := lw_g (lw_at lw_m1 168 rfl) rfl
theorem q190 : (Jvm.Cond.instanceMethod ({ cls := "ReteEngine", name := "effect", desc := "(IIII)I" } : Jvm.MethodName)) ∈ lw_all := lw_g (lw_at lw_m1 170 rfl) rfl
theorem q191 : (Jvm.Cond.selects "ReteEngine" ({ cls := "ReteEngine", name := "effect", desc := "(IIII)I" } : Jvm.MethodName) ({ cls := "ReteEngine", name := "effect", desc := "(IIII)I" } : Jvm.MethodName)) ∈ lw_all := lw_g (lw_at lw_m1 171 rfl) rfl
theorem q192 : (Jvm.Cond.code ({ cls := "ReteEngine", name := "effect", desc := "(IIII)I" } : Jvm.MethodName) prog_1_method_32_code (8 : Nat) (Option.some Jvm.ClassFile.FieldType.int)) ∈ lw_all := lw_g (lw_at lw_m1 172 rfl) rfl
theorem q193 : (Jvm.Cond.methodLink "ReteEngine" (123 : Nat) ({ cls := "ReteEngine", name := "add", desc := "(III)I" } : Jvm.MethodName)) ∈ lw_all := lw_g (lw_at lw_m1 173 rfl) rfl
theorem q194 : (Jvm.Cond.methodLink "ReteEngine" (126 : Nat) ({ cls := "ReteEngine", name := "remove", desc := "(I)Z" } : Jvm.MethodName)) ∈ lw_all := lw_g (lw_at lw_m1 174 rfl) rfl
theorem in_X0 : ∀ w ∈ wsX00, w ∈ lw_all := lw_in wsX00 [44, 46, 48, 50, 52, 54, 56, 58, 60, 62, 64, 66, 68] (by decide +kernel) (by decide +kernel)
end
section
/-! ReteEngineModel -/
set_option maxRecDepth 100000
def RX1 : String := "ReteEngineModel"
def TX1 : u_T := fun k => match k with
  | 0 => ("ReteEngineModel", "there", "[Z", false)
  | 1 => ("ReteEngineModel", "kinds", "[I", false)
  | 2 => ("ReteEngineModel", "as", "[I", false)
  | 3 => ("ReteEngineModel", "bs", "[I", false)
  | 4 => ("ReteEngineModel", "size", "[I", false)
  | 5 => ("ReteEngineModel", "whats", "[I", false)
  | _ => ("ReteEngineModel", "bound", "[I", false)
def tyX1 : Nat → FieldType := fun k => match k with
  | 0 => .array .boolean
  | 1 => .array .int
  | 2 => .array .int
  | 3 => .array .int
  | 4 => .array .int
  | 5 => .array .int
  | _ => .array .int
abbrev wsX10 : List Cond := u_ws RX1 TX1 7
theorem nmX1 : ∀ a, a < 7 → ∀ b, b < 7 → a ≠ b → (TX1 a).2.1 ≠ (TX1 b).2.1 := by decide +kernel
theorem tyX1_ok : ∀ k, k < 7 → parseFieldDescriptor (TX1 k).2.2.1 = some (tyX1 k) := by decide +kernel
abbrev cX1_init : ByteArray := prog_3_method_1_code
def yX1_init : MethodName := ⟨RX1, "<init>", "()V"⟩
theorem dX1_init_0 : decode cX1_init 0 = .ok (.aload_n 0, 1) := by decide +kernel
theorem dX1_init_1 : decode cX1_init 1 = .ok (.invokespecial 1, 3) := by decide +kernel
theorem dX1_init_4 : decode cX1_init 4 = .ok (.aload_n 0, 1) := by decide +kernel
theorem dX1_init_5 : decode cX1_init 5 = .ok (.bipush 7, 2) := by decide +kernel
theorem dX1_init_7 : decode cX1_init 7 = .ok (.newarray .boolean, 2) := by decide +kernel
theorem dX1_init_9 : decode cX1_init 9 = .ok (.putfield 7, 3) := by decide +kernel
theorem dX1_init_12 : decode cX1_init 12 = .ok (.aload_n 0, 1) := by decide +kernel
theorem dX1_init_13 : decode cX1_init 13 = .ok (.bipush 7, 2) := by decide +kernel
theorem dX1_init_15 : decode cX1_init 15 = .ok (.newarray .int, 2) := by decide +kernel
theorem dX1_init_17 : decode cX1_init 17 = .ok (.putfield 13, 3) := by decide +kernel
theorem dX1_init_20 : decode cX1_init 20 = .ok (.aload_n 0, 1) := by decide +kernel
theorem dX1_init_21 : decode cX1_init 21 = .ok (.bipush 7, 2) := by decide +kernel
theorem dX1_init_23 : decode cX1_init 23 = .ok (.newarray .int, 2) := by decide +kernel
theorem dX1_init_25 : decode cX1_init 25 = .ok (.putfield 17, 3) := by decide +kernel
theorem dX1_init_28 : decode cX1_init 28 = .ok (.aload_n 0, 1) := by decide +kernel
theorem dX1_init_29 : decode cX1_init 29 = .ok (.bipush 7, 2) := by decide +kernel
theorem dX1_init_31 : decode cX1_init 31 = .ok (.newarray .int, 2) := by decide +kernel
theorem dX1_init_33 : decode cX1_init 33 = .ok (.putfield 20, 3) := by decide +kernel
theorem dX1_init_36 : decode cX1_init 36 = .ok (.aload_n 0, 1) := by decide +kernel
theorem dX1_init_37 : decode cX1_init 37 = .ok (.iconst 3, 1) := by decide +kernel
theorem dX1_init_38 : decode cX1_init 38 = .ok (.newarray .int, 2) := by decide +kernel
theorem dX1_init_40 : decode cX1_init 40 = .ok (.putfield 23, 3) := by decide +kernel
theorem dX1_init_43 : decode cX1_init 43 = .ok (.aload_n 0, 1) := by decide +kernel
theorem dX1_init_44 : decode cX1_init 44 = .ok (.bipush 9, 2) := by decide +kernel
theorem dX1_init_46 : decode cX1_init 46 = .ok (.newarray .int, 2) := by decide +kernel
theorem dX1_init_48 : decode cX1_init 48 = .ok (.putfield 26, 3) := by decide +kernel
theorem dX1_init_51 : decode cX1_init 51 = .ok (.aload_n 0, 1) := by decide +kernel
theorem dX1_init_52 : decode cX1_init 52 = .ok (.iconst 3, 1) := by decide +kernel
theorem dX1_init_53 : decode cX1_init 53 = .ok (.newarray .int, 2) := by decide +kernel
theorem dX1_init_55 : decode cX1_init 55 = .ok (.putfield 29, 3) := by decide +kernel
theorem dX1_init_58 : decode cX1_init 58 = .ok (.return_, 1) := by decide +kernel
abbrev cX1_condition : ByteArray := prog_3_method_3_code
def yX1_condition : MethodName := ⟨RX1, "condition", "(II)I"⟩
theorem dX1_condition_0 : decode cX1_condition 0 = .ok (.aload_n 0, 1) := by decide +kernel
theorem dX1_condition_1 : decode cX1_condition 1 = .ok (.iload_n 1, 1) := by decide +kernel
theorem dX1_condition_2 : decode cX1_condition 2 = .ok (.invokevirtual 32, 3) := by decide +kernel
theorem dX1_condition_5 : decode cX1_condition 5 = .ok (.ifCond .eq 21, 3) := by decide +kernel
theorem dX1_condition_8 : decode cX1_condition 8 = .ok (.iload_n 2, 1) := by decide +kernel
theorem dX1_condition_9 : decode cX1_condition 9 = .ok (.ifCond .lt 17, 3) := by decide +kernel
theorem dX1_condition_12 : decode cX1_condition 12 = .ok (.iload_n 2, 1) := by decide +kernel
theorem dX1_condition_13 : decode cX1_condition 13 = .ok (.sipush 511, 3) := by decide +kernel
theorem dX1_condition_16 : decode cX1_condition 16 = .ok (.if_icmp .gt 10, 3) := by decide +kernel
theorem dX1_condition_19 : decode cX1_condition 19 = .ok (.iload_n 2, 1) := by decide +kernel
theorem dX1_condition_20 : decode cX1_condition 20 = .ok (.iconst 3, 1) := by decide +kernel
theorem dX1_condition_21 : decode cX1_condition 21 = .ok (.iand, 1) := by decide +kernel
theorem dX1_condition_22 : decode cX1_condition 22 = .ok (.iconst 3, 1) := by decide +kernel
theorem dX1_condition_23 : decode cX1_condition 23 = .ok (.if_icmp .ne 5, 3) := by decide +kernel
theorem dX1_condition_26 : decode cX1_condition 26 = .ok (.iconst (-1), 1) := by decide +kernel
theorem dX1_condition_27 : decode cX1_condition 27 = .ok (.ireturn, 1) := by decide +kernel
theorem dX1_condition_28 : decode cX1_condition 28 = .ok (.aload_n 0, 1) := by decide +kernel
theorem dX1_condition_29 : decode cX1_condition 29 = .ok (.getfield 23, 3) := by decide +kernel
theorem dX1_condition_32 : decode cX1_condition 32 = .ok (.iload_n 1, 1) := by decide +kernel
theorem dX1_condition_33 : decode cX1_condition 33 = .ok (.iaload, 1) := by decide +kernel
theorem dX1_condition_34 : decode cX1_condition 34 = .ok (.iconst 3, 1) := by decide +kernel
theorem dX1_condition_35 : decode cX1_condition 35 = .ok (.if_icmp .lt 6, 3) := by decide +kernel
theorem dX1_condition_38 : decode cX1_condition 38 = .ok (.bipush (-2), 2) := by decide +kernel
theorem dX1_condition_40 : decode cX1_condition 40 = .ok (.ireturn, 1) := by decide +kernel
theorem dX1_condition_41 : decode cX1_condition 41 = .ok (.aload_n 0, 1) := by decide +kernel
theorem dX1_condition_42 : decode cX1_condition 42 = .ok (.getfield 26, 3) := by decide +kernel
theorem dX1_condition_45 : decode cX1_condition 45 = .ok (.iconst 3, 1) := by decide +kernel
theorem dX1_condition_46 : decode cX1_condition 46 = .ok (.iload_n 1, 1) := by decide +kernel
theorem dX1_condition_47 : decode cX1_condition 47 = .ok (.imul, 1) := by decide +kernel
theorem dX1_condition_48 : decode cX1_condition 48 = .ok (.aload_n 0, 1) := by decide +kernel
theorem dX1_condition_49 : decode cX1_condition 49 = .ok (.getfield 23, 3) := by decide +kernel
theorem dX1_condition_52 : decode cX1_condition 52 = .ok (.iload_n 1, 1) := by decide +kernel
theorem dX1_condition_53 : decode cX1_condition 53 = .ok (.iaload, 1) := by decide +kernel
theorem dX1_condition_54 : decode cX1_condition 54 = .ok (.iadd, 1) := by decide +kernel
theorem dX1_condition_55 : decode cX1_condition 55 = .ok (.iload_n 2, 1) := by decide +kernel
theorem dX1_condition_56 : decode cX1_condition 56 = .ok (.iastore, 1) := by decide +kernel
theorem dX1_condition_57 : decode cX1_condition 57 = .ok (.aload_n 0, 1) := by decide +kernel
theorem dX1_condition_58 : decode cX1_condition 58 = .ok (.getfield 23, 3) := by decide +kernel
theorem dX1_condition_61 : decode cX1_condition 61 = .ok (.iload_n 1, 1) := by decide +kernel
theorem dX1_condition_62 : decode cX1_condition 62 = .ok (.dup2, 1) := by decide +kernel
theorem dX1_condition_63 : decode cX1_condition 63 = .ok (.iaload, 1) := by decide +kernel
theorem dX1_condition_64 : decode cX1_condition 64 = .ok (.iconst 1, 1) := by decide +kernel
theorem dX1_condition_65 : decode cX1_condition 65 = .ok (.iadd, 1) := by decide +kernel
theorem dX1_condition_66 : decode cX1_condition 66 = .ok (.iastore, 1) := by decide +kernel
theorem dX1_condition_67 : decode cX1_condition 67 = .ok (.aload_n 0, 1) := by decide +kernel
theorem dX1_condition_68 : decode cX1_condition 68 = .ok (.getfield 23, 3) := by decide +kernel
theorem dX1_condition_71 : decode cX1_condition 71 = .ok (.iload_n 1, 1) := by decide +kernel
theorem dX1_condition_72 : decode cX1_condition 72 = .ok (.iaload, 1) := by decide +kernel
theorem dX1_condition_73 : decode cX1_condition 73 = .ok (.ireturn, 1) := by decide +kernel
abbrev cX1_rule : ByteArray := prog_3_method_2_code
def yX1_rule : MethodName := ⟨RX1, "rule", "(I)Z"⟩
theorem dX1_rule_0 : decode cX1_rule 0 = .ok (.iload_n 1, 1) := by decide +kernel
theorem dX1_rule_1 : decode cX1_rule 1 = .ok (.ifCond .lt 12, 3) := by decide +kernel
theorem dX1_rule_4 : decode cX1_rule 4 = .ok (.iload_n 1, 1) := by decide +kernel
theorem dX1_rule_5 : decode cX1_rule 5 = .ok (.iconst 2, 1) := by decide +kernel
theorem dX1_rule_6 : decode cX1_rule 6 = .ok (.if_icmp .gt 7, 3) := by decide +kernel
theorem dX1_rule_9 : decode cX1_rule 9 = .ok (.iconst 1, 1) := by decide +kernel
theorem dX1_rule_10 : decode cX1_rule 10 = .ok (.goto 4, 3) := by decide +kernel
theorem dX1_rule_13 : decode cX1_rule 13 = .ok (.iconst 0, 1) := by decide +kernel
theorem dX1_rule_14 : decode cX1_rule 14 = .ok (.ireturn, 1) := by decide +kernel
abbrev cX1_drop : ByteArray := prog_3_method_4_code
def yX1_drop : MethodName := ⟨RX1, "drop", "(I)I"⟩
theorem dX1_drop_0 : decode cX1_drop 0 = .ok (.aload_n 0, 1) := by decide +kernel
theorem dX1_drop_1 : decode cX1_drop 1 = .ok (.iload_n 1, 1) := by decide +kernel
theorem dX1_drop_2 : decode cX1_drop 2 = .ok (.invokevirtual 32, 3) := by decide +kernel
theorem dX1_drop_5 : decode cX1_drop 5 = .ok (.ifCond .eq 12, 3) := by decide +kernel
theorem dX1_drop_8 : decode cX1_drop 8 = .ok (.aload_n 0, 1) := by decide +kernel
theorem dX1_drop_9 : decode cX1_drop 9 = .ok (.getfield 23, 3) := by decide +kernel
theorem dX1_drop_12 : decode cX1_drop 12 = .ok (.iload_n 1, 1) := by decide +kernel
theorem dX1_drop_13 : decode cX1_drop 13 = .ok (.iaload, 1) := by decide +kernel
theorem dX1_drop_14 : decode cX1_drop 14 = .ok (.ifCond .ne 5, 3) := by decide +kernel
theorem dX1_drop_17 : decode cX1_drop 17 = .ok (.iconst (-1), 1) := by decide +kernel
theorem dX1_drop_18 : decode cX1_drop 18 = .ok (.ireturn, 1) := by decide +kernel
theorem dX1_drop_19 : decode cX1_drop 19 = .ok (.aload_n 0, 1) := by decide +kernel
theorem dX1_drop_20 : decode cX1_drop 20 = .ok (.getfield 23, 3) := by decide +kernel
theorem dX1_drop_23 : decode cX1_drop 23 = .ok (.iload_n 1, 1) := by decide +kernel
theorem dX1_drop_24 : decode cX1_drop 24 = .ok (.dup2, 1) := by decide +kernel
theorem dX1_drop_25 : decode cX1_drop 25 = .ok (.iaload, 1) := by decide +kernel
theorem dX1_drop_26 : decode cX1_drop 26 = .ok (.iconst 1, 1) := by decide +kernel
theorem dX1_drop_27 : decode cX1_drop 27 = .ok (.isub, 1) := by decide +kernel
theorem dX1_drop_28 : decode cX1_drop 28 = .ok (.iastore, 1) := by decide +kernel
theorem dX1_drop_29 : decode cX1_drop 29 = .ok (.aload_n 0, 1) := by decide +kernel
theorem dX1_drop_30 : decode cX1_drop 30 = .ok (.getfield 23, 3) := by decide +kernel
theorem dX1_drop_33 : decode cX1_drop 33 = .ok (.iload_n 1, 1) := by decide +kernel
theorem dX1_drop_34 : decode cX1_drop 34 = .ok (.iaload, 1) := by decide +kernel
theorem dX1_drop_35 : decode cX1_drop 35 = .ok (.ireturn, 1) := by decide +kernel
abbrev cX1_add : ByteArray := prog_3_method_6_code
def yX1_add : MethodName := ⟨RX1, "add", "(III)I"⟩
theorem dX1_add_0 : decode cX1_add 0 = .ok (.aload_n 0, 1) := by decide +kernel
theorem dX1_add_1 : decode cX1_add 1 = .ok (.iload_n 1, 1) := by decide +kernel
theorem dX1_add_2 : decode cX1_add 2 = .ok (.iload_n 2, 1) := by decide +kernel
theorem dX1_add_3 : decode cX1_add 3 = .ok (.iload_n 3, 1) := by decide +kernel
theorem dX1_add_4 : decode cX1_add 4 = .ok (.invokevirtual 36, 3) := by decide +kernel
theorem dX1_add_7 : decode cX1_add 7 = .ok (.ifCond .ne 5, 3) := by decide +kernel
theorem dX1_add_10 : decode cX1_add 10 = .ok (.iconst (-1), 1) := by decide +kernel
theorem dX1_add_11 : decode cX1_add 11 = .ok (.ireturn, 1) := by decide +kernel
theorem dX1_add_12 : decode cX1_add 12 = .ok (.iconst 0, 1) := by decide +kernel
theorem dX1_add_13 : decode cX1_add 13 = .ok (.istore 4, 2) := by decide +kernel
theorem dX1_add_15 : decode cX1_add 15 = .ok (.iload 4, 2) := by decide +kernel
theorem dX1_add_17 : decode cX1_add 17 = .ok (.bipush 7, 2) := by decide +kernel
theorem dX1_add_19 : decode cX1_add 19 = .ok (.if_icmp .ge 54, 3) := by decide +kernel
theorem dX1_add_22 : decode cX1_add 22 = .ok (.aload_n 0, 1) := by decide +kernel
theorem dX1_add_23 : decode cX1_add 23 = .ok (.getfield 7, 3) := by decide +kernel
theorem dX1_add_26 : decode cX1_add 26 = .ok (.iload 4, 2) := by decide +kernel
theorem dX1_add_28 : decode cX1_add 28 = .ok (.baload, 1) := by decide +kernel
theorem dX1_add_29 : decode cX1_add 29 = .ok (.ifCond .ne 38, 3) := by decide +kernel
theorem dX1_add_32 : decode cX1_add 32 = .ok (.aload_n 0, 1) := by decide +kernel
theorem dX1_add_33 : decode cX1_add 33 = .ok (.getfield 7, 3) := by decide +kernel
theorem dX1_add_36 : decode cX1_add 36 = .ok (.iload 4, 2) := by decide +kernel
theorem dX1_add_38 : decode cX1_add 38 = .ok (.iconst 1, 1) := by decide +kernel
theorem dX1_add_39 : decode cX1_add 39 = .ok (.bastore, 1) := by decide +kernel
theorem dX1_add_40 : decode cX1_add 40 = .ok (.aload_n 0, 1) := by decide +kernel
theorem dX1_add_41 : decode cX1_add 41 = .ok (.getfield 13, 3) := by decide +kernel
theorem dX1_add_44 : decode cX1_add 44 = .ok (.iload 4, 2) := by decide +kernel
theorem dX1_add_46 : decode cX1_add 46 = .ok (.iload_n 1, 1) := by decide +kernel
theorem dX1_add_47 : decode cX1_add 47 = .ok (.iastore, 1) := by decide +kernel
theorem dX1_add_48 : decode cX1_add 48 = .ok (.aload_n 0, 1) := by decide +kernel
theorem dX1_add_49 : decode cX1_add 49 = .ok (.getfield 17, 3) := by decide +kernel
theorem dX1_add_52 : decode cX1_add 52 = .ok (.iload 4, 2) := by decide +kernel
theorem dX1_add_54 : decode cX1_add 54 = .ok (.iload_n 2, 1) := by decide +kernel
theorem dX1_add_55 : decode cX1_add 55 = .ok (.iastore, 1) := by decide +kernel
theorem dX1_add_56 : decode cX1_add 56 = .ok (.aload_n 0, 1) := by decide +kernel
theorem dX1_add_57 : decode cX1_add 57 = .ok (.getfield 20, 3) := by decide +kernel
theorem dX1_add_60 : decode cX1_add 60 = .ok (.iload 4, 2) := by decide +kernel
theorem dX1_add_62 : decode cX1_add 62 = .ok (.iload_n 3, 1) := by decide +kernel
theorem dX1_add_63 : decode cX1_add 63 = .ok (.iastore, 1) := by decide +kernel
theorem dX1_add_64 : decode cX1_add 64 = .ok (.iload 4, 2) := by decide +kernel
theorem dX1_add_66 : decode cX1_add 66 = .ok (.ireturn, 1) := by decide +kernel
theorem dX1_add_67 : decode cX1_add 67 = .ok (.iinc 4 1, 3) := by decide +kernel
theorem dX1_add_70 : decode cX1_add 70 = .ok (.goto (-55), 3) := by decide +kernel
theorem dX1_add_73 : decode cX1_add 73 = .ok (.bipush (-2), 2) := by decide +kernel
theorem dX1_add_75 : decode cX1_add 75 = .ok (.ireturn, 1) := by decide +kernel
abbrev cX1_fact : ByteArray := prog_3_method_5_code
def yX1_fact : MethodName := ⟨RX1, "fact", "(III)Z"⟩
theorem dX1_fact_0 : decode cX1_fact 0 = .ok (.iload_n 1, 1) := by decide +kernel
theorem dX1_fact_1 : decode cX1_fact 1 = .ok (.ifCond .lt 30, 3) := by decide +kernel
theorem dX1_fact_4 : decode cX1_fact 4 = .ok (.iload_n 1, 1) := by decide +kernel
theorem dX1_fact_5 : decode cX1_fact 5 = .ok (.iconst 2, 1) := by decide +kernel
theorem dX1_fact_6 : decode cX1_fact 6 = .ok (.if_icmp .gt 25, 3) := by decide +kernel
theorem dX1_fact_9 : decode cX1_fact 9 = .ok (.iload_n 2, 1) := by decide +kernel
theorem dX1_fact_10 : decode cX1_fact 10 = .ok (.ifCond .lt 21, 3) := by decide +kernel
theorem dX1_fact_13 : decode cX1_fact 13 = .ok (.iload_n 2, 1) := by decide +kernel
theorem dX1_fact_14 : decode cX1_fact 14 = .ok (.iconst 3, 1) := by decide +kernel
theorem dX1_fact_15 : decode cX1_fact 15 = .ok (.if_icmp .gt 16, 3) := by decide +kernel
theorem dX1_fact_18 : decode cX1_fact 18 = .ok (.iload_n 3, 1) := by decide +kernel
theorem dX1_fact_19 : decode cX1_fact 19 = .ok (.ifCond .lt 12, 3) := by decide +kernel
theorem dX1_fact_22 : decode cX1_fact 22 = .ok (.iload_n 3, 1) := by decide +kernel
theorem dX1_fact_23 : decode cX1_fact 23 = .ok (.iconst 3, 1) := by decide +kernel
theorem dX1_fact_24 : decode cX1_fact 24 = .ok (.if_icmp .gt 7, 3) := by decide +kernel
theorem dX1_fact_27 : decode cX1_fact 27 = .ok (.iconst 1, 1) := by decide +kernel
theorem dX1_fact_28 : decode cX1_fact 28 = .ok (.goto 4, 3) := by decide +kernel
theorem dX1_fact_31 : decode cX1_fact 31 = .ok (.iconst 0, 1) := by decide +kernel
theorem dX1_fact_32 : decode cX1_fact 32 = .ok (.ireturn, 1) := by decide +kernel
abbrev cX1_remove : ByteArray := prog_3_method_7_code
def yX1_remove : MethodName := ⟨RX1, "remove", "(I)Z"⟩
theorem dX1_remove_0 : decode cX1_remove 0 = .ok (.iload_n 1, 1) := by decide +kernel
theorem dX1_remove_1 : decode cX1_remove 1 = .ok (.ifCond .lt 18, 3) := by decide +kernel
theorem dX1_remove_4 : decode cX1_remove 4 = .ok (.iload_n 1, 1) := by decide +kernel
theorem dX1_remove_5 : decode cX1_remove 5 = .ok (.bipush 6, 2) := by decide +kernel
theorem dX1_remove_7 : decode cX1_remove 7 = .ok (.if_icmp .gt 12, 3) := by decide +kernel
theorem dX1_remove_10 : decode cX1_remove 10 = .ok (.aload_n 0, 1) := by decide +kernel
theorem dX1_remove_11 : decode cX1_remove 11 = .ok (.getfield 7, 3) := by decide +kernel
theorem dX1_remove_14 : decode cX1_remove 14 = .ok (.iload_n 1, 1) := by decide +kernel
theorem dX1_remove_15 : decode cX1_remove 15 = .ok (.baload, 1) := by decide +kernel
theorem dX1_remove_16 : decode cX1_remove 16 = .ok (.ifCond .ne 5, 3) := by decide +kernel
theorem dX1_remove_19 : decode cX1_remove 19 = .ok (.iconst 0, 1) := by decide +kernel
theorem dX1_remove_20 : decode cX1_remove 20 = .ok (.ireturn, 1) := by decide +kernel
theorem dX1_remove_21 : decode cX1_remove 21 = .ok (.aload_n 0, 1) := by decide +kernel
theorem dX1_remove_22 : decode cX1_remove 22 = .ok (.getfield 7, 3) := by decide +kernel
theorem dX1_remove_25 : decode cX1_remove 25 = .ok (.iload_n 1, 1) := by decide +kernel
theorem dX1_remove_26 : decode cX1_remove 26 = .ok (.iconst 0, 1) := by decide +kernel
theorem dX1_remove_27 : decode cX1_remove 27 = .ok (.bastore, 1) := by decide +kernel
theorem dX1_remove_28 : decode cX1_remove 28 = .ok (.iconst 1, 1) := by decide +kernel
theorem dX1_remove_29 : decode cX1_remove 29 = .ok (.ireturn, 1) := by decide +kernel
abbrev cX1_facts : ByteArray := prog_3_method_8_code
def yX1_facts : MethodName := ⟨RX1, "facts", "()I"⟩
theorem dX1_facts_0 : decode cX1_facts 0 = .ok (.iconst 0, 1) := by decide +kernel
theorem dX1_facts_1 : decode cX1_facts 1 = .ok (.istore_n 1, 1) := by decide +kernel
theorem dX1_facts_2 : decode cX1_facts 2 = .ok (.iconst 0, 1) := by decide +kernel
theorem dX1_facts_3 : decode cX1_facts 3 = .ok (.istore_n 2, 1) := by decide +kernel
theorem dX1_facts_4 : decode cX1_facts 4 = .ok (.iload_n 2, 1) := by decide +kernel
theorem dX1_facts_5 : decode cX1_facts 5 = .ok (.bipush 7, 2) := by decide +kernel
theorem dX1_facts_7 : decode cX1_facts 7 = .ok (.if_icmp .ge 28, 3) := by decide +kernel
theorem dX1_facts_10 : decode cX1_facts 10 = .ok (.aload_n 0, 1) := by decide +kernel
theorem dX1_facts_11 : decode cX1_facts 11 = .ok (.getfield 7, 3) := by decide +kernel
theorem dX1_facts_14 : decode cX1_facts 14 = .ok (.iload_n 2, 1) := by decide +kernel
theorem dX1_facts_15 : decode cX1_facts 15 = .ok (.baload, 1) := by decide +kernel
theorem dX1_facts_16 : decode cX1_facts 16 = .ok (.ifCond .eq 11, 3) := by decide +kernel
theorem dX1_facts_19 : decode cX1_facts 19 = .ok (.iload_n 1, 1) := by decide +kernel
theorem dX1_facts_20 : decode cX1_facts 20 = .ok (.iconst 1, 1) := by decide +kernel
theorem dX1_facts_21 : decode cX1_facts 21 = .ok (.iload_n 2, 1) := by decide +kernel
theorem dX1_facts_22 : decode cX1_facts 22 = .ok (.ishl, 1) := by decide +kernel
theorem dX1_facts_23 : decode cX1_facts 23 = .ok (.ior, 1) := by decide +kernel
theorem dX1_facts_24 : decode cX1_facts 24 = .ok (.goto 4, 3) := by decide +kernel
theorem dX1_facts_27 : decode cX1_facts 27 = .ok (.iload_n 1, 1) := by decide +kernel
theorem dX1_facts_28 : decode cX1_facts 28 = .ok (.istore_n 1, 1) := by decide +kernel
theorem dX1_facts_29 : decode cX1_facts 29 = .ok (.iinc 2 1, 3) := by decide +kernel
theorem dX1_facts_32 : decode cX1_facts 32 = .ok (.goto (-28), 3) := by decide +kernel
theorem dX1_facts_35 : decode cX1_facts 35 = .ok (.iload_n 1, 1) := by decide +kernel
theorem dX1_facts_36 : decode cX1_facts 36 = .ok (.ireturn, 1) := by decide +kernel
abbrev cX1_matches : ByteArray := prog_3_method_14_code
def yX1_matches : MethodName := ⟨RX1, "matches", "(I)I"⟩
theorem dX1_matches_0 : decode cX1_matches 0 = .ok (.aload_n 0, 1) := by decide +kernel
theorem dX1_matches_1 : decode cX1_matches 1 = .ok (.iload_n 1, 1) := by decide +kernel
theorem dX1_matches_2 : decode cX1_matches 2 = .ok (.invokevirtual 32, 3) := by decide +kernel
theorem dX1_matches_5 : decode cX1_matches 5 = .ok (.ifCond .eq 17, 3) := by decide +kernel
theorem dX1_matches_8 : decode cX1_matches 8 = .ok (.aload_n 0, 1) := by decide +kernel
theorem dX1_matches_9 : decode cX1_matches 9 = .ok (.iload_n 1, 1) := by decide +kernel
theorem dX1_matches_10 : decode cX1_matches 10 = .ok (.aload_n 0, 1) := by decide +kernel
theorem dX1_matches_11 : decode cX1_matches 11 = .ok (.getfield 23, 3) := by decide +kernel
theorem dX1_matches_14 : decode cX1_matches 14 = .ok (.iload_n 1, 1) := by decide +kernel
theorem dX1_matches_15 : decode cX1_matches 15 = .ok (.iaload, 1) := by decide +kernel
theorem dX1_matches_16 : decode cX1_matches 16 = .ok (.invokevirtual 53, 3) := by decide +kernel
theorem dX1_matches_19 : decode cX1_matches 19 = .ok (.goto 4, 3) := by decide +kernel
theorem dX1_matches_22 : decode cX1_matches 22 = .ok (.iconst (-1), 1) := by decide +kernel
theorem dX1_matches_23 : decode cX1_matches 23 = .ok (.ireturn, 1) := by decide +kernel
abbrev cX1_count : ByteArray := prog_3_method_13_code
def yX1_count : MethodName := ⟨RX1, "count", "(II)I"⟩
theorem dX1_count_0 : decode cX1_count 0 = .ok (.iconst 0, 1) := by decide +kernel
theorem dX1_count_1 : decode cX1_count 1 = .ok (.istore_n 3, 1) := by decide +kernel
theorem dX1_count_2 : decode cX1_count 2 = .ok (.iconst 0, 1) := by decide +kernel
theorem dX1_count_3 : decode cX1_count 3 = .ok (.istore 4, 2) := by decide +kernel
theorem dX1_count_5 : decode cX1_count 5 = .ok (.iload 4, 2) := by decide +kernel
theorem dX1_count_7 : decode cX1_count 7 = .ok (.sipush 512, 3) := by decide +kernel
theorem dX1_count_10 : decode cX1_count 10 = .ok (.if_icmp .ge 28, 3) := by decide +kernel
theorem dX1_count_13 : decode cX1_count 13 = .ok (.aload_n 0, 1) := by decide +kernel
theorem dX1_count_14 : decode cX1_count 14 = .ok (.iload_n 1, 1) := by decide +kernel
theorem dX1_count_15 : decode cX1_count 15 = .ok (.iload_n 2, 1) := by decide +kernel
theorem dX1_count_16 : decode cX1_count 16 = .ok (.iload 4, 2) := by decide +kernel
theorem dX1_count_18 : decode cX1_count 18 = .ok (.invokevirtual 50, 3) := by decide +kernel
theorem dX1_count_21 : decode cX1_count 21 = .ok (.ifCond .eq 9, 3) := by decide +kernel
theorem dX1_count_24 : decode cX1_count 24 = .ok (.iload_n 3, 1) := by decide +kernel
theorem dX1_count_25 : decode cX1_count 25 = .ok (.iconst 1, 1) := by decide +kernel
theorem dX1_count_26 : decode cX1_count 26 = .ok (.iadd, 1) := by decide +kernel
theorem dX1_count_27 : decode cX1_count 27 = .ok (.goto 4, 3) := by decide +kernel
theorem dX1_count_30 : decode cX1_count 30 = .ok (.iload_n 3, 1) := by decide +kernel
theorem dX1_count_31 : decode cX1_count 31 = .ok (.istore_n 3, 1) := by decide +kernel
theorem dX1_count_32 : decode cX1_count 32 = .ok (.iinc 4 1, 3) := by decide +kernel
theorem dX1_count_35 : decode cX1_count 35 = .ok (.goto (-30), 3) := by decide +kernel
theorem dX1_count_38 : decode cX1_count 38 = .ok (.iload_n 3, 1) := by decide +kernel
theorem dX1_count_39 : decode cX1_count 39 = .ok (.ireturn, 1) := by decide +kernel
abbrev cX1_isMatch : ByteArray := prog_3_method_12_code
def yX1_isMatch : MethodName := ⟨RX1, "isMatch", "(III)Z"⟩
theorem dX1_isMatch_0 : decode cX1_isMatch 0 = .ok (.iconst 0, 1) := by decide +kernel
theorem dX1_isMatch_1 : decode cX1_isMatch 1 = .ok (.istore 4, 2) := by decide +kernel
theorem dX1_isMatch_3 : decode cX1_isMatch 3 = .ok (.iload 4, 2) := by decide +kernel
theorem dX1_isMatch_5 : decode cX1_isMatch 5 = .ok (.iconst 3, 1) := by decide +kernel
theorem dX1_isMatch_6 : decode cX1_isMatch 6 = .ok (.if_icmp .ge 17, 3) := by decide +kernel
theorem dX1_isMatch_9 : decode cX1_isMatch 9 = .ok (.aload_n 0, 1) := by decide +kernel
theorem dX1_isMatch_10 : decode cX1_isMatch 10 = .ok (.getfield 29, 3) := by decide +kernel
theorem dX1_isMatch_13 : decode cX1_isMatch 13 = .ok (.iload 4, 2) := by decide +kernel
theorem dX1_isMatch_15 : decode cX1_isMatch 15 = .ok (.iconst 0, 1) := by decide +kernel
theorem dX1_isMatch_16 : decode cX1_isMatch 16 = .ok (.iastore, 1) := by decide +kernel
theorem dX1_isMatch_17 : decode cX1_isMatch 17 = .ok (.iinc 4 1, 3) := by decide +kernel
theorem dX1_isMatch_20 : decode cX1_isMatch 20 = .ok (.goto (-17), 3) := by decide +kernel
theorem dX1_isMatch_23 : decode cX1_isMatch 23 = .ok (.iconst 1, 1) := by decide +kernel
theorem dX1_isMatch_24 : decode cX1_isMatch 24 = .ok (.istore 4, 2) := by decide +kernel
theorem dX1_isMatch_26 : decode cX1_isMatch 26 = .ok (.iconst 0, 1) := by decide +kernel
theorem dX1_isMatch_27 : decode cX1_isMatch 27 = .ok (.istore 5, 2) := by decide +kernel
theorem dX1_isMatch_29 : decode cX1_isMatch 29 = .ok (.iload 5, 2) := by decide +kernel
theorem dX1_isMatch_31 : decode cX1_isMatch 31 = .ok (.iconst 3, 1) := by decide +kernel
theorem dX1_isMatch_32 : decode cX1_isMatch 32 = .ok (.if_icmp .ge 118, 3) := by decide +kernel
theorem dX1_isMatch_35 : decode cX1_isMatch 35 = .ok (.iload 4, 2) := by decide +kernel
theorem dX1_isMatch_37 : decode cX1_isMatch 37 = .ok (.ifCond .eq 113, 3) := by decide +kernel
theorem dX1_isMatch_40 : decode cX1_isMatch 40 = .ok (.iload_n 3, 1) := by decide +kernel
theorem dX1_isMatch_41 : decode cX1_isMatch 41 = .ok (.iconst 3, 1) := by decide +kernel
theorem dX1_isMatch_42 : decode cX1_isMatch 42 = .ok (.iload 5, 2) := by decide +kernel
theorem dX1_isMatch_44 : decode cX1_isMatch 44 = .ok (.imul, 1) := by decide +kernel
theorem dX1_isMatch_45 : decode cX1_isMatch 45 = .ok (.ishr, 1) := by decide +kernel
theorem dX1_isMatch_46 : decode cX1_isMatch 46 = .ok (.bipush 7, 2) := by decide +kernel
theorem dX1_isMatch_48 : decode cX1_isMatch 48 = .ok (.iand, 1) := by decide +kernel
theorem dX1_isMatch_49 : decode cX1_isMatch 49 = .ok (.istore 6, 2) := by decide +kernel
theorem dX1_isMatch_51 : decode cX1_isMatch 51 = .ok (.aload_n 0, 1) := by decide +kernel
theorem dX1_isMatch_52 : decode cX1_isMatch 52 = .ok (.getfield 26, 3) := by decide +kernel
theorem dX1_isMatch_55 : decode cX1_isMatch 55 = .ok (.iconst 3, 1) := by decide +kernel
theorem dX1_isMatch_56 : decode cX1_isMatch 56 = .ok (.iload_n 1, 1) := by decide +kernel
theorem dX1_isMatch_57 : decode cX1_isMatch 57 = .ok (.imul, 1) := by decide +kernel
theorem dX1_isMatch_58 : decode cX1_isMatch 58 = .ok (.iload 5, 2) := by decide +kernel
theorem dX1_isMatch_60 : decode cX1_isMatch 60 = .ok (.iadd, 1) := by decide +kernel
theorem dX1_isMatch_61 : decode cX1_isMatch 61 = .ok (.iaload, 1) := by decide +kernel
theorem dX1_isMatch_62 : decode cX1_isMatch 62 = .ok (.istore 7, 2) := by decide +kernel
theorem dX1_isMatch_64 : decode cX1_isMatch 64 = .ok (.iload 5, 2) := by decide +kernel
theorem dX1_isMatch_66 : decode cX1_isMatch 66 = .ok (.iload_n 2, 1) := by decide +kernel
theorem dX1_isMatch_67 : decode cX1_isMatch 67 = .ok (.if_icmp .ge 11, 3) := by decide +kernel
theorem dX1_isMatch_70 : decode cX1_isMatch 70 = .ok (.iload 7, 2) := by decide +kernel
theorem dX1_isMatch_72 : decode cX1_isMatch 72 = .ok (.sipush 256, 3) := by decide +kernel
theorem dX1_isMatch_75 : decode cX1_isMatch 75 = .ok (.if_icmp .lt 7, 3) := by decide +kernel
theorem dX1_isMatch_78 : decode cX1_isMatch 78 = .ok (.iconst 1, 1) := by decide +kernel
theorem dX1_isMatch_79 : decode cX1_isMatch 79 = .ok (.goto 4, 3) := by decide +kernel
theorem dX1_isMatch_82 : decode cX1_isMatch 82 = .ok (.iconst 0, 1) := by decide +kernel
theorem dX1_isMatch_83 : decode cX1_isMatch 83 = .ok (.istore 8, 2) := by decide +kernel
theorem dX1_isMatch_85 : decode cX1_isMatch 85 = .ok (.iload 8, 2) := by decide +kernel
theorem dX1_isMatch_87 : decode cX1_isMatch 87 = .ok (.ifCond .ne 10, 3) := by decide +kernel
theorem dX1_isMatch_90 : decode cX1_isMatch 90 = .ok (.iload 6, 2) := by decide +kernel
theorem dX1_isMatch_92 : decode cX1_isMatch 92 = .ok (.bipush 7, 2) := by decide +kernel
theorem dX1_isMatch_94 : decode cX1_isMatch 94 = .ok (.if_icmp .ne 40, 3) := by decide +kernel
theorem dX1_isMatch_97 : decode cX1_isMatch 97 = .ok (.iload 8, 2) := by decide +kernel
theorem dX1_isMatch_99 : decode cX1_isMatch 99 = .ok (.ifCond .eq 29, 3) := by decide +kernel
theorem dX1_isMatch_102 : decode cX1_isMatch 102 = .ok (.iload 6, 2) := by decide +kernel
theorem dX1_isMatch_104 : decode cX1_isMatch 104 = .ok (.bipush 7, 2) := by decide +kernel
theorem dX1_isMatch_106 : decode cX1_isMatch 106 = .ok (.if_icmp .ne 22, 3) := by decide +kernel
theorem dX1_isMatch_109 : decode cX1_isMatch 109 = .ok (.iload 5, 2) := by decide +kernel
theorem dX1_isMatch_111 : decode cX1_isMatch 111 = .ok (.iload_n 2, 1) := by decide +kernel
theorem dX1_isMatch_112 : decode cX1_isMatch 112 = .ok (.if_icmp .ge 12, 3) := by decide +kernel
theorem dX1_isMatch_115 : decode cX1_isMatch 115 = .ok (.aload_n 0, 1) := by decide +kernel
theorem dX1_isMatch_116 : decode cX1_isMatch 116 = .ok (.iload 7, 2) := by decide +kernel
theorem dX1_isMatch_118 : decode cX1_isMatch 118 = .ok (.invokevirtual 47, 3) := by decide +kernel
theorem dX1_isMatch_121 : decode cX1_isMatch 121 = .ok (.ifCond .eq 7, 3) := by decide +kernel
theorem dX1_isMatch_124 : decode cX1_isMatch 124 = .ok (.iconst 1, 1) := by decide +kernel
theorem dX1_isMatch_125 : decode cX1_isMatch 125 = .ok (.goto 4, 3) := by decide +kernel
theorem dX1_isMatch_128 : decode cX1_isMatch 128 = .ok (.iconst 0, 1) := by decide +kernel
theorem dX1_isMatch_129 : decode cX1_isMatch 129 = .ok (.istore 4, 2) := by decide +kernel
theorem dX1_isMatch_131 : decode cX1_isMatch 131 = .ok (.goto 13, 3) := by decide +kernel
theorem dX1_isMatch_134 : decode cX1_isMatch 134 = .ok (.aload_n 0, 1) := by decide +kernel
theorem dX1_isMatch_135 : decode cX1_isMatch 135 = .ok (.iload 7, 2) := by decide +kernel
theorem dX1_isMatch_137 : decode cX1_isMatch 137 = .ok (.iload 6, 2) := by decide +kernel
theorem dX1_isMatch_139 : decode cX1_isMatch 139 = .ok (.invokevirtual 44, 3) := by decide +kernel
theorem dX1_isMatch_142 : decode cX1_isMatch 142 = .ok (.istore 4, 2) := by decide +kernel
theorem dX1_isMatch_144 : decode cX1_isMatch 144 = .ok (.iinc 5 1, 3) := by decide +kernel
theorem dX1_isMatch_147 : decode cX1_isMatch 147 = .ok (.goto (-118), 3) := by decide +kernel
theorem dX1_isMatch_150 : decode cX1_isMatch 150 = .ok (.iload 4, 2) := by decide +kernel
theorem dX1_isMatch_152 : decode cX1_isMatch 152 = .ok (.ireturn, 1) := by decide +kernel
abbrev cX1_none : ByteArray := prog_3_method_11_code
def yX1_none : MethodName := ⟨RX1, "none", "(I)Z"⟩
theorem dX1_none_0 : decode cX1_none 0 = .ok (.iconst 0, 1) := by decide +kernel
theorem dX1_none_1 : decode cX1_none 1 = .ok (.istore_n 2, 1) := by decide +kernel
theorem dX1_none_2 : decode cX1_none 2 = .ok (.iconst 0, 1) := by decide +kernel
theorem dX1_none_3 : decode cX1_none 3 = .ok (.istore_n 3, 1) := by decide +kernel
theorem dX1_none_4 : decode cX1_none 4 = .ok (.iload_n 3, 1) := by decide +kernel
theorem dX1_none_5 : decode cX1_none 5 = .ok (.bipush 7, 2) := by decide +kernel
theorem dX1_none_7 : decode cX1_none 7 = .ok (.if_icmp .ge 76, 3) := by decide +kernel
theorem dX1_none_10 : decode cX1_none 10 = .ok (.aload_n 0, 1) := by decide +kernel
theorem dX1_none_11 : decode cX1_none 11 = .ok (.getfield 29, 3) := by decide +kernel
theorem dX1_none_14 : decode cX1_none 14 = .ok (.iconst 0, 1) := by decide +kernel
theorem dX1_none_15 : decode cX1_none 15 = .ok (.iaload, 1) := by decide +kernel
theorem dX1_none_16 : decode cX1_none 16 = .ok (.istore 4, 2) := by decide +kernel
theorem dX1_none_18 : decode cX1_none 18 = .ok (.aload_n 0, 1) := by decide +kernel
theorem dX1_none_19 : decode cX1_none 19 = .ok (.getfield 29, 3) := by decide +kernel
theorem dX1_none_22 : decode cX1_none 22 = .ok (.iconst 1, 1) := by decide +kernel
theorem dX1_none_23 : decode cX1_none 23 = .ok (.iaload, 1) := by decide +kernel
theorem dX1_none_24 : decode cX1_none 24 = .ok (.istore 5, 2) := by decide +kernel
theorem dX1_none_26 : decode cX1_none 26 = .ok (.aload_n 0, 1) := by decide +kernel
theorem dX1_none_27 : decode cX1_none 27 = .ok (.getfield 29, 3) := by decide +kernel
theorem dX1_none_30 : decode cX1_none 30 = .ok (.iconst 2, 1) := by decide +kernel
theorem dX1_none_31 : decode cX1_none 31 = .ok (.iaload, 1) := by decide +kernel
theorem dX1_none_32 : decode cX1_none 32 = .ok (.istore 6, 2) := by decide +kernel
theorem dX1_none_34 : decode cX1_none 34 = .ok (.aload_n 0, 1) := by decide +kernel
theorem dX1_none_35 : decode cX1_none 35 = .ok (.iload_n 1, 1) := by decide +kernel
theorem dX1_none_36 : decode cX1_none 36 = .ok (.iload_n 3, 1) := by decide +kernel
theorem dX1_none_37 : decode cX1_none 37 = .ok (.invokevirtual 44, 3) := by decide +kernel
theorem dX1_none_40 : decode cX1_none 40 = .ok (.ifCond .ne 7, 3) := by decide +kernel
theorem dX1_none_43 : decode cX1_none 43 = .ok (.iload_n 2, 1) := by decide +kernel
theorem dX1_none_44 : decode cX1_none 44 = .ok (.ifCond .eq 7, 3) := by decide +kernel
theorem dX1_none_47 : decode cX1_none 47 = .ok (.iconst 1, 1) := by decide +kernel
theorem dX1_none_48 : decode cX1_none 48 = .ok (.goto 4, 3) := by decide +kernel
theorem dX1_none_51 : decode cX1_none 51 = .ok (.iconst 0, 1) := by decide +kernel
theorem dX1_none_52 : decode cX1_none 52 = .ok (.istore_n 2, 1) := by decide +kernel
theorem dX1_none_53 : decode cX1_none 53 = .ok (.aload_n 0, 1) := by decide +kernel
theorem dX1_none_54 : decode cX1_none 54 = .ok (.getfield 29, 3) := by decide +kernel
theorem dX1_none_57 : decode cX1_none 57 = .ok (.iconst 0, 1) := by decide +kernel
theorem dX1_none_58 : decode cX1_none 58 = .ok (.iload 4, 2) := by decide +kernel
theorem dX1_none_60 : decode cX1_none 60 = .ok (.iastore, 1) := by decide +kernel
theorem dX1_none_61 : decode cX1_none 61 = .ok (.aload_n 0, 1) := by decide +kernel
theorem dX1_none_62 : decode cX1_none 62 = .ok (.getfield 29, 3) := by decide +kernel
theorem dX1_none_65 : decode cX1_none 65 = .ok (.iconst 1, 1) := by decide +kernel
theorem dX1_none_66 : decode cX1_none 66 = .ok (.iload 5, 2) := by decide +kernel
theorem dX1_none_68 : decode cX1_none 68 = .ok (.iastore, 1) := by decide +kernel
theorem dX1_none_69 : decode cX1_none 69 = .ok (.aload_n 0, 1) := by decide +kernel
theorem dX1_none_70 : decode cX1_none 70 = .ok (.getfield 29, 3) := by decide +kernel
theorem dX1_none_73 : decode cX1_none 73 = .ok (.iconst 2, 1) := by decide +kernel
theorem dX1_none_74 : decode cX1_none 74 = .ok (.iload 6, 2) := by decide +kernel
theorem dX1_none_76 : decode cX1_none 76 = .ok (.iastore, 1) := by decide +kernel
theorem dX1_none_77 : decode cX1_none 77 = .ok (.iinc 3 1, 3) := by decide +kernel
theorem dX1_none_80 : decode cX1_none 80 = .ok (.goto (-76), 3) := by decide +kernel
theorem dX1_none_83 : decode cX1_none 83 = .ok (.iload_n 2, 1) := by decide +kernel
theorem dX1_none_84 : decode cX1_none 84 = .ok (.ifCond .ne 7, 3) := by decide +kernel
theorem dX1_none_87 : decode cX1_none 87 = .ok (.iconst 1, 1) := by decide +kernel
theorem dX1_none_88 : decode cX1_none 88 = .ok (.goto 4, 3) := by decide +kernel
theorem dX1_none_91 : decode cX1_none 91 = .ok (.iconst 0, 1) := by decide +kernel
theorem dX1_none_92 : decode cX1_none 92 = .ok (.ireturn, 1) := by decide +kernel
end
section
set_option maxRecDepth 100000
abbrev cX1_takes : ByteArray := prog_3_method_10_code
def yX1_takes : MethodName := ⟨RX1, "takes", "(II)Z"⟩
theorem dX1_takes_0 : decode cX1_takes 0 = .ok (.aload_n 0, 1) := by decide +kernel
theorem dX1_takes_1 : decode cX1_takes 1 = .ok (.getfield 7, 3) := by decide +kernel
theorem dX1_takes_4 : decode cX1_takes 4 = .ok (.iload_n 2, 1) := by decide +kernel
theorem dX1_takes_5 : decode cX1_takes 5 = .ok (.baload, 1) := by decide +kernel
theorem dX1_takes_6 : decode cX1_takes 6 = .ok (.ifCond .eq 57, 3) := by decide +kernel
theorem dX1_takes_9 : decode cX1_takes 9 = .ok (.aload_n 0, 1) := by decide +kernel
theorem dX1_takes_10 : decode cX1_takes 10 = .ok (.getfield 13, 3) := by decide +kernel
theorem dX1_takes_13 : decode cX1_takes 13 = .ok (.iload_n 2, 1) := by decide +kernel
theorem dX1_takes_14 : decode cX1_takes 14 = .ok (.iaload, 1) := by decide +kernel
theorem dX1_takes_15 : decode cX1_takes 15 = .ok (.iload_n 1, 1) := by decide +kernel
theorem dX1_takes_16 : decode cX1_takes 16 = .ok (.iconst 3, 1) := by decide +kernel
theorem dX1_takes_17 : decode cX1_takes 17 = .ok (.iand, 1) := by decide +kernel
theorem dX1_takes_18 : decode cX1_takes 18 = .ok (.if_icmp .ne 45, 3) := by decide +kernel
theorem dX1_takes_21 : decode cX1_takes 21 = .ok (.aload_n 0, 1) := by decide +kernel
theorem dX1_takes_22 : decode cX1_takes 22 = .ok (.iload_n 1, 1) := by decide +kernel
theorem dX1_takes_23 : decode cX1_takes 23 = .ok (.iconst 2, 1) := by decide +kernel
theorem dX1_takes_24 : decode cX1_takes 24 = .ok (.ishr, 1) := by decide +kernel
theorem dX1_takes_25 : decode cX1_takes 25 = .ok (.bipush 7, 2) := by decide +kernel
theorem dX1_takes_27 : decode cX1_takes 27 = .ok (.iand, 1) := by decide +kernel
theorem dX1_takes_28 : decode cX1_takes 28 = .ok (.aload_n 0, 1) := by decide +kernel
theorem dX1_takes_29 : decode cX1_takes 29 = .ok (.getfield 17, 3) := by decide +kernel
theorem dX1_takes_32 : decode cX1_takes 32 = .ok (.iload_n 2, 1) := by decide +kernel
theorem dX1_takes_33 : decode cX1_takes 33 = .ok (.iaload, 1) := by decide +kernel
theorem dX1_takes_34 : decode cX1_takes 34 = .ok (.invokevirtual 40, 3) := by decide +kernel
theorem dX1_takes_37 : decode cX1_takes 37 = .ok (.ifCond .eq 26, 3) := by decide +kernel
theorem dX1_takes_40 : decode cX1_takes 40 = .ok (.aload_n 0, 1) := by decide +kernel
theorem dX1_takes_41 : decode cX1_takes 41 = .ok (.iload_n 1, 1) := by decide +kernel
theorem dX1_takes_42 : decode cX1_takes 42 = .ok (.iconst 5, 1) := by decide +kernel
theorem dX1_takes_43 : decode cX1_takes 43 = .ok (.ishr, 1) := by decide +kernel
theorem dX1_takes_44 : decode cX1_takes 44 = .ok (.bipush 7, 2) := by decide +kernel
theorem dX1_takes_46 : decode cX1_takes 46 = .ok (.iand, 1) := by decide +kernel
theorem dX1_takes_47 : decode cX1_takes 47 = .ok (.aload_n 0, 1) := by decide +kernel
theorem dX1_takes_48 : decode cX1_takes 48 = .ok (.getfield 20, 3) := by decide +kernel
theorem dX1_takes_51 : decode cX1_takes 51 = .ok (.iload_n 2, 1) := by decide +kernel
theorem dX1_takes_52 : decode cX1_takes 52 = .ok (.iaload, 1) := by decide +kernel
theorem dX1_takes_53 : decode cX1_takes 53 = .ok (.invokevirtual 40, 3) := by decide +kernel
theorem dX1_takes_56 : decode cX1_takes 56 = .ok (.ifCond .eq 7, 3) := by decide +kernel
theorem dX1_takes_59 : decode cX1_takes 59 = .ok (.iconst 1, 1) := by decide +kernel
theorem dX1_takes_60 : decode cX1_takes 60 = .ok (.goto 4, 3) := by decide +kernel
theorem dX1_takes_63 : decode cX1_takes 63 = .ok (.iconst 0, 1) := by decide +kernel
theorem dX1_takes_64 : decode cX1_takes 64 = .ok (.ireturn, 1) := by decide +kernel
abbrev cX1_fits : ByteArray := prog_3_method_9_code
def yX1_fits : MethodName := ⟨RX1, "fits", "(II)Z"⟩
theorem dX1_fits_0 : decode cX1_fits 0 = .ok (.iload_n 1, 1) := by decide +kernel
theorem dX1_fits_1 : decode cX1_fits 1 = .ok (.iconst 3, 1) := by decide +kernel
theorem dX1_fits_2 : decode cX1_fits 2 = .ok (.if_icmp .gt 14, 3) := by decide +kernel
theorem dX1_fits_5 : decode cX1_fits 5 = .ok (.iload_n 2, 1) := by decide +kernel
theorem dX1_fits_6 : decode cX1_fits 6 = .ok (.iload_n 1, 1) := by decide +kernel
theorem dX1_fits_7 : decode cX1_fits 7 = .ok (.if_icmp .ne 7, 3) := by decide +kernel
theorem dX1_fits_10 : decode cX1_fits 10 = .ok (.iconst 1, 1) := by decide +kernel
theorem dX1_fits_11 : decode cX1_fits 11 = .ok (.goto 4, 3) := by decide +kernel
theorem dX1_fits_14 : decode cX1_fits 14 = .ok (.iconst 0, 1) := by decide +kernel
theorem dX1_fits_15 : decode cX1_fits 15 = .ok (.ireturn, 1) := by decide +kernel
theorem dX1_fits_16 : decode cX1_fits 16 = .ok (.iload_n 1, 1) := by decide +kernel
theorem dX1_fits_17 : decode cX1_fits 17 = .ok (.bipush 7, 2) := by decide +kernel
theorem dX1_fits_19 : decode cX1_fits 19 = .ok (.if_icmp .ne 5, 3) := by decide +kernel
theorem dX1_fits_22 : decode cX1_fits 22 = .ok (.iconst 1, 1) := by decide +kernel
theorem dX1_fits_23 : decode cX1_fits 23 = .ok (.ireturn, 1) := by decide +kernel
theorem dX1_fits_24 : decode cX1_fits 24 = .ok (.iload_n 1, 1) := by decide +kernel
theorem dX1_fits_25 : decode cX1_fits 25 = .ok (.iconst 4, 1) := by decide +kernel
theorem dX1_fits_26 : decode cX1_fits 26 = .ok (.isub, 1) := by decide +kernel
theorem dX1_fits_27 : decode cX1_fits 27 = .ok (.istore_n 3, 1) := by decide +kernel
theorem dX1_fits_28 : decode cX1_fits 28 = .ok (.aload_n 0, 1) := by decide +kernel
theorem dX1_fits_29 : decode cX1_fits 29 = .ok (.getfield 29, 3) := by decide +kernel
theorem dX1_fits_32 : decode cX1_fits 32 = .ok (.iload_n 3, 1) := by decide +kernel
theorem dX1_fits_33 : decode cX1_fits 33 = .ok (.iaload, 1) := by decide +kernel
theorem dX1_fits_34 : decode cX1_fits 34 = .ok (.ifCond .ne 12, 3) := by decide +kernel
theorem dX1_fits_37 : decode cX1_fits 37 = .ok (.aload_n 0, 1) := by decide +kernel
theorem dX1_fits_38 : decode cX1_fits 38 = .ok (.getfield 29, 3) := by decide +kernel
theorem dX1_fits_41 : decode cX1_fits 41 = .ok (.iload_n 3, 1) := by decide +kernel
theorem dX1_fits_42 : decode cX1_fits 42 = .ok (.iload_n 2, 1) := by decide +kernel
theorem dX1_fits_43 : decode cX1_fits 43 = .ok (.iconst 1, 1) := by decide +kernel
theorem dX1_fits_44 : decode cX1_fits 44 = .ok (.iadd, 1) := by decide +kernel
theorem dX1_fits_45 : decode cX1_fits 45 = .ok (.iastore, 1) := by decide +kernel
theorem dX1_fits_46 : decode cX1_fits 46 = .ok (.aload_n 0, 1) := by decide +kernel
theorem dX1_fits_47 : decode cX1_fits 47 = .ok (.getfield 29, 3) := by decide +kernel
theorem dX1_fits_50 : decode cX1_fits 50 = .ok (.iload_n 3, 1) := by decide +kernel
theorem dX1_fits_51 : decode cX1_fits 51 = .ok (.iaload, 1) := by decide +kernel
theorem dX1_fits_52 : decode cX1_fits 52 = .ok (.iload_n 2, 1) := by decide +kernel
theorem dX1_fits_53 : decode cX1_fits 53 = .ok (.iconst 1, 1) := by decide +kernel
theorem dX1_fits_54 : decode cX1_fits 54 = .ok (.iadd, 1) := by decide +kernel
theorem dX1_fits_55 : decode cX1_fits 55 = .ok (.if_icmp .ne 7, 3) := by decide +kernel
theorem dX1_fits_58 : decode cX1_fits 58 = .ok (.iconst 1, 1) := by decide +kernel
theorem dX1_fits_59 : decode cX1_fits 59 = .ok (.goto 4, 3) := by decide +kernel
theorem dX1_fits_62 : decode cX1_fits 62 = .ok (.iconst 0, 1) := by decide +kernel
theorem dX1_fits_63 : decode cX1_fits 63 = .ok (.ireturn, 1) := by decide +kernel
abbrev cX1_match : ByteArray := prog_3_method_15_code
def yX1_match : MethodName := ⟨RX1, "match", "(II)I"⟩
theorem dX1_match_0 : decode cX1_match 0 = .ok (.iconst 0, 1) := by decide +kernel
theorem dX1_match_1 : decode cX1_match 1 = .ok (.istore_n 3, 1) := by decide +kernel
theorem dX1_match_2 : decode cX1_match 2 = .ok (.iconst 0, 1) := by decide +kernel
theorem dX1_match_3 : decode cX1_match 3 = .ok (.istore 4, 2) := by decide +kernel
theorem dX1_match_5 : decode cX1_match 5 = .ok (.iload 4, 2) := by decide +kernel
theorem dX1_match_7 : decode cX1_match 7 = .ok (.sipush 512, 3) := by decide +kernel
theorem dX1_match_10 : decode cX1_match 10 = .ok (.if_icmp .ge 44, 3) := by decide +kernel
theorem dX1_match_13 : decode cX1_match 13 = .ok (.aload_n 0, 1) := by decide +kernel
theorem dX1_match_14 : decode cX1_match 14 = .ok (.iload_n 1, 1) := by decide +kernel
theorem dX1_match_15 : decode cX1_match 15 = .ok (.invokevirtual 32, 3) := by decide +kernel
theorem dX1_match_18 : decode cX1_match 18 = .ok (.ifCond .eq 36, 3) := by decide +kernel
theorem dX1_match_21 : decode cX1_match 21 = .ok (.aload_n 0, 1) := by decide +kernel
theorem dX1_match_22 : decode cX1_match 22 = .ok (.iload_n 1, 1) := by decide +kernel
theorem dX1_match_23 : decode cX1_match 23 = .ok (.aload_n 0, 1) := by decide +kernel
theorem dX1_match_24 : decode cX1_match 24 = .ok (.getfield 23, 3) := by decide +kernel
theorem dX1_match_27 : decode cX1_match 27 = .ok (.iload_n 1, 1) := by decide +kernel
theorem dX1_match_28 : decode cX1_match 28 = .ok (.iaload, 1) := by decide +kernel
theorem dX1_match_29 : decode cX1_match 29 = .ok (.iload 4, 2) := by decide +kernel
theorem dX1_match_31 : decode cX1_match 31 = .ok (.invokevirtual 50, 3) := by decide +kernel
theorem dX1_match_34 : decode cX1_match 34 = .ok (.ifCond .eq 14, 3) := by decide +kernel
theorem dX1_match_37 : decode cX1_match 37 = .ok (.iload_n 3, 1) := by decide +kernel
theorem dX1_match_38 : decode cX1_match 38 = .ok (.iload_n 2, 1) := by decide +kernel
theorem dX1_match_39 : decode cX1_match 39 = .ok (.if_icmp .ne 6, 3) := by decide +kernel
theorem dX1_match_42 : decode cX1_match 42 = .ok (.iload 4, 2) := by decide +kernel
theorem dX1_match_44 : decode cX1_match 44 = .ok (.ireturn, 1) := by decide +kernel
theorem dX1_match_45 : decode cX1_match 45 = .ok (.iinc 3 1, 3) := by decide +kernel
theorem dX1_match_48 : decode cX1_match 48 = .ok (.iinc 4 1, 3) := by decide +kernel
theorem dX1_match_51 : decode cX1_match 51 = .ok (.goto (-46), 3) := by decide +kernel
theorem dX1_match_54 : decode cX1_match 54 = .ok (.iconst (-1), 1) := by decide +kernel
theorem dX1_match_55 : decode cX1_match 55 = .ok (.ireturn, 1) := by decide +kernel
abbrev cX1_ready : ByteArray := prog_3_method_16_code
def yX1_ready : MethodName := ⟨RX1, "ready", "()I"⟩
theorem dX1_ready_0 : decode cX1_ready 0 = .ok (.iconst 0, 1) := by decide +kernel
theorem dX1_ready_1 : decode cX1_ready 1 = .ok (.istore_n 1, 1) := by decide +kernel
theorem dX1_ready_2 : decode cX1_ready 2 = .ok (.iconst 0, 1) := by decide +kernel
theorem dX1_ready_3 : decode cX1_ready 3 = .ok (.istore_n 2, 1) := by decide +kernel
theorem dX1_ready_4 : decode cX1_ready 4 = .ok (.iload_n 2, 1) := by decide +kernel
theorem dX1_ready_5 : decode cX1_ready 5 = .ok (.iconst 3, 1) := by decide +kernel
theorem dX1_ready_6 : decode cX1_ready 6 = .ok (.if_icmp .ge 27, 3) := by decide +kernel
theorem dX1_ready_9 : decode cX1_ready 9 = .ok (.aload_n 0, 1) := by decide +kernel
theorem dX1_ready_10 : decode cX1_ready 10 = .ok (.iload_n 2, 1) := by decide +kernel
theorem dX1_ready_11 : decode cX1_ready 11 = .ok (.invokevirtual 57, 3) := by decide +kernel
theorem dX1_ready_14 : decode cX1_ready 14 = .ok (.ifCond .le 11, 3) := by decide +kernel
theorem dX1_ready_17 : decode cX1_ready 17 = .ok (.iload_n 1, 1) := by decide +kernel
theorem dX1_ready_18 : decode cX1_ready 18 = .ok (.iconst 1, 1) := by decide +kernel
theorem dX1_ready_19 : decode cX1_ready 19 = .ok (.iload_n 2, 1) := by decide +kernel
theorem dX1_ready_20 : decode cX1_ready 20 = .ok (.ishl, 1) := by decide +kernel
theorem dX1_ready_21 : decode cX1_ready 21 = .ok (.ior, 1) := by decide +kernel
theorem dX1_ready_22 : decode cX1_ready 22 = .ok (.goto 4, 3) := by decide +kernel
theorem dX1_ready_25 : decode cX1_ready 25 = .ok (.iload_n 1, 1) := by decide +kernel
theorem dX1_ready_26 : decode cX1_ready 26 = .ok (.istore_n 1, 1) := by decide +kernel
theorem dX1_ready_27 : decode cX1_ready 27 = .ok (.iinc 2 1, 3) := by decide +kernel
theorem dX1_ready_30 : decode cX1_ready 30 = .ok (.goto (-26), 3) := by decide +kernel
theorem dX1_ready_33 : decode cX1_ready 33 = .ok (.iload_n 1, 1) := by decide +kernel
theorem dX1_ready_34 : decode cX1_ready 34 = .ok (.ireturn, 1) := by decide +kernel
abbrev cX1_uses : ByteArray := prog_3_method_17_code
def yX1_uses : MethodName := ⟨RX1, "uses", "(I)I"⟩
theorem dX1_uses_0 : decode cX1_uses 0 = .ok (.iload_n 1, 1) := by decide +kernel
theorem dX1_uses_1 : decode cX1_uses 1 = .ok (.ifCond .lt 18, 3) := by decide +kernel
theorem dX1_uses_4 : decode cX1_uses 4 = .ok (.iload_n 1, 1) := by decide +kernel
theorem dX1_uses_5 : decode cX1_uses 5 = .ok (.bipush 6, 2) := by decide +kernel
theorem dX1_uses_7 : decode cX1_uses 7 = .ok (.if_icmp .gt 12, 3) := by decide +kernel
theorem dX1_uses_10 : decode cX1_uses 10 = .ok (.aload_n 0, 1) := by decide +kernel
theorem dX1_uses_11 : decode cX1_uses 11 = .ok (.getfield 7, 3) := by decide +kernel
theorem dX1_uses_14 : decode cX1_uses 14 = .ok (.iload_n 1, 1) := by decide +kernel
theorem dX1_uses_15 : decode cX1_uses 15 = .ok (.baload, 1) := by decide +kernel
theorem dX1_uses_16 : decode cX1_uses 16 = .ok (.ifCond .ne 5, 3) := by decide +kernel
theorem dX1_uses_19 : decode cX1_uses 19 = .ok (.iconst (-1), 1) := by decide +kernel
theorem dX1_uses_20 : decode cX1_uses 20 = .ok (.ireturn, 1) := by decide +kernel
theorem dX1_uses_21 : decode cX1_uses 21 = .ok (.iconst 0, 1) := by decide +kernel
theorem dX1_uses_22 : decode cX1_uses 22 = .ok (.istore_n 2, 1) := by decide +kernel
theorem dX1_uses_23 : decode cX1_uses 23 = .ok (.iconst 0, 1) := by decide +kernel
theorem dX1_uses_24 : decode cX1_uses 24 = .ok (.istore_n 3, 1) := by decide +kernel
theorem dX1_uses_25 : decode cX1_uses 25 = .ok (.iload_n 3, 1) := by decide +kernel
theorem dX1_uses_26 : decode cX1_uses 26 = .ok (.sipush 1536, 3) := by decide +kernel
theorem dX1_uses_29 : decode cX1_uses 29 = .ok (.if_icmp .ge 89, 3) := by decide +kernel
theorem dX1_uses_32 : decode cX1_uses 32 = .ok (.iload_n 3, 1) := by decide +kernel
theorem dX1_uses_33 : decode cX1_uses 33 = .ok (.sipush 512, 3) := by decide +kernel
theorem dX1_uses_36 : decode cX1_uses 36 = .ok (.irem, 1) := by decide +kernel
theorem dX1_uses_37 : decode cX1_uses 37 = .ok (.istore 4, 2) := by decide +kernel
theorem dX1_uses_39 : decode cX1_uses 39 = .ok (.iload 4, 2) := by decide +kernel
theorem dX1_uses_41 : decode cX1_uses 41 = .ok (.bipush 7, 2) := by decide +kernel
theorem dX1_uses_43 : decode cX1_uses 43 = .ok (.iand, 1) := by decide +kernel
theorem dX1_uses_44 : decode cX1_uses 44 = .ok (.iload_n 1, 1) := by decide +kernel
theorem dX1_uses_45 : decode cX1_uses 45 = .ok (.if_icmp .eq 23, 3) := by decide +kernel
theorem dX1_uses_48 : decode cX1_uses 48 = .ok (.iload 4, 2) := by decide +kernel
theorem dX1_uses_50 : decode cX1_uses 50 = .ok (.iconst 3, 1) := by decide +kernel
theorem dX1_uses_51 : decode cX1_uses 51 = .ok (.ishr, 1) := by decide +kernel
theorem dX1_uses_52 : decode cX1_uses 52 = .ok (.bipush 7, 2) := by decide +kernel
theorem dX1_uses_54 : decode cX1_uses 54 = .ok (.iand, 1) := by decide +kernel
theorem dX1_uses_55 : decode cX1_uses 55 = .ok (.iload_n 1, 1) := by decide +kernel
theorem dX1_uses_56 : decode cX1_uses 56 = .ok (.if_icmp .eq 12, 3) := by decide +kernel
theorem dX1_uses_59 : decode cX1_uses 59 = .ok (.iload 4, 2) := by decide +kernel
theorem dX1_uses_61 : decode cX1_uses 61 = .ok (.bipush 6, 2) := by decide +kernel
theorem dX1_uses_63 : decode cX1_uses 63 = .ok (.ishr, 1) := by decide +kernel
theorem dX1_uses_64 : decode cX1_uses 64 = .ok (.iload_n 1, 1) := by decide +kernel
theorem dX1_uses_65 : decode cX1_uses 65 = .ok (.if_icmp .ne 7, 3) := by decide +kernel
theorem dX1_uses_68 : decode cX1_uses 68 = .ok (.iconst 1, 1) := by decide +kernel
theorem dX1_uses_69 : decode cX1_uses 69 = .ok (.goto 4, 3) := by decide +kernel
theorem dX1_uses_72 : decode cX1_uses 72 = .ok (.iconst 0, 1) := by decide +kernel
theorem dX1_uses_73 : decode cX1_uses 73 = .ok (.istore 5, 2) := by decide +kernel
theorem dX1_uses_75 : decode cX1_uses 75 = .ok (.iload 5, 2) := by decide +kernel
theorem dX1_uses_77 : decode cX1_uses 77 = .ok (.ifCond .eq 33, 3) := by decide +kernel
theorem dX1_uses_80 : decode cX1_uses 80 = .ok (.aload_n 0, 1) := by decide +kernel
theorem dX1_uses_81 : decode cX1_uses 81 = .ok (.iload_n 3, 1) := by decide +kernel
theorem dX1_uses_82 : decode cX1_uses 82 = .ok (.sipush 512, 3) := by decide +kernel
theorem dX1_uses_85 : decode cX1_uses 85 = .ok (.idiv, 1) := by decide +kernel
theorem dX1_uses_86 : decode cX1_uses 86 = .ok (.aload_n 0, 1) := by decide +kernel
theorem dX1_uses_87 : decode cX1_uses 87 = .ok (.getfield 23, 3) := by decide +kernel
theorem dX1_uses_90 : decode cX1_uses 90 = .ok (.iload_n 3, 1) := by decide +kernel
theorem dX1_uses_91 : decode cX1_uses 91 = .ok (.sipush 512, 3) := by decide +kernel
theorem dX1_uses_94 : decode cX1_uses 94 = .ok (.idiv, 1) := by decide +kernel
theorem dX1_uses_95 : decode cX1_uses 95 = .ok (.iaload, 1) := by decide +kernel
theorem dX1_uses_96 : decode cX1_uses 96 = .ok (.iload 4, 2) := by decide +kernel
theorem dX1_uses_98 : decode cX1_uses 98 = .ok (.invokevirtual 50, 3) := by decide +kernel
theorem dX1_uses_101 : decode cX1_uses 101 = .ok (.ifCond .eq 9, 3) := by decide +kernel
theorem dX1_uses_104 : decode cX1_uses 104 = .ok (.iload_n 2, 1) := by decide +kernel
theorem dX1_uses_105 : decode cX1_uses 105 = .ok (.iconst 1, 1) := by decide +kernel
theorem dX1_uses_106 : decode cX1_uses 106 = .ok (.iadd, 1) := by decide +kernel
theorem dX1_uses_107 : decode cX1_uses 107 = .ok (.goto 4, 3) := by decide +kernel
theorem dX1_uses_110 : decode cX1_uses 110 = .ok (.iload_n 2, 1) := by decide +kernel
theorem dX1_uses_111 : decode cX1_uses 111 = .ok (.istore_n 2, 1) := by decide +kernel
theorem dX1_uses_112 : decode cX1_uses 112 = .ok (.iinc 3 1, 3) := by decide +kernel
theorem dX1_uses_115 : decode cX1_uses 115 = .ok (.goto (-90), 3) := by decide +kernel
theorem dX1_uses_118 : decode cX1_uses 118 = .ok (.iload_n 2, 1) := by decide +kernel
theorem dX1_uses_119 : decode cX1_uses 119 = .ok (.ireturn, 1) := by decide +kernel
abbrev cX1_fitting : ByteArray := prog_3_method_18_code
def yX1_fitting : MethodName := ⟨RX1, "fitting", "(II)I"⟩
theorem dX1_fitting_0 : decode cX1_fitting 0 = .ok (.aload_n 0, 1) := by decide +kernel
theorem dX1_fitting_1 : decode cX1_fitting 1 = .ok (.iload_n 1, 1) := by decide +kernel
theorem dX1_fitting_2 : decode cX1_fitting 2 = .ok (.invokevirtual 32, 3) := by decide +kernel
theorem dX1_fitting_5 : decode cX1_fitting 5 = .ok (.ifCond .eq 17, 3) := by decide +kernel
theorem dX1_fitting_8 : decode cX1_fitting 8 = .ok (.iload_n 2, 1) := by decide +kernel
theorem dX1_fitting_9 : decode cX1_fitting 9 = .ok (.ifCond .lt 13, 3) := by decide +kernel
theorem dX1_fitting_12 : decode cX1_fitting 12 = .ok (.iload_n 2, 1) := by decide +kernel
theorem dX1_fitting_13 : decode cX1_fitting 13 = .ok (.aload_n 0, 1) := by decide +kernel
theorem dX1_fitting_14 : decode cX1_fitting 14 = .ok (.getfield 23, 3) := by decide +kernel
theorem dX1_fitting_17 : decode cX1_fitting 17 = .ok (.iload_n 1, 1) := by decide +kernel
theorem dX1_fitting_18 : decode cX1_fitting 18 = .ok (.iaload, 1) := by decide +kernel
theorem dX1_fitting_19 : decode cX1_fitting 19 = .ok (.if_icmp .lt 5, 3) := by decide +kernel
theorem dX1_fitting_22 : decode cX1_fitting 22 = .ok (.iconst (-1), 1) := by decide +kernel
theorem dX1_fitting_23 : decode cX1_fitting 23 = .ok (.ireturn, 1) := by decide +kernel
theorem dX1_fitting_24 : decode cX1_fitting 24 = .ok (.aload_n 0, 1) := by decide +kernel
theorem dX1_fitting_25 : decode cX1_fitting 25 = .ok (.getfield 26, 3) := by decide +kernel
theorem dX1_fitting_28 : decode cX1_fitting 28 = .ok (.iconst 3, 1) := by decide +kernel
theorem dX1_fitting_29 : decode cX1_fitting 29 = .ok (.iload_n 1, 1) := by decide +kernel
theorem dX1_fitting_30 : decode cX1_fitting 30 = .ok (.imul, 1) := by decide +kernel
theorem dX1_fitting_31 : decode cX1_fitting 31 = .ok (.iload_n 2, 1) := by decide +kernel
theorem dX1_fitting_32 : decode cX1_fitting 32 = .ok (.iadd, 1) := by decide +kernel
theorem dX1_fitting_33 : decode cX1_fitting 33 = .ok (.iaload, 1) := by decide +kernel
theorem dX1_fitting_34 : decode cX1_fitting 34 = .ok (.istore_n 3, 1) := by decide +kernel
theorem dX1_fitting_35 : decode cX1_fitting 35 = .ok (.iload_n 3, 1) := by decide +kernel
theorem dX1_fitting_36 : decode cX1_fitting 36 = .ok (.iconst 2, 1) := by decide +kernel
theorem dX1_fitting_37 : decode cX1_fitting 37 = .ok (.ishr, 1) := by decide +kernel
theorem dX1_fitting_38 : decode cX1_fitting 38 = .ok (.bipush 7, 2) := by decide +kernel
theorem dX1_fitting_40 : decode cX1_fitting 40 = .ok (.iand, 1) := by decide +kernel
theorem dX1_fitting_41 : decode cX1_fitting 41 = .ok (.istore 4, 2) := by decide +kernel
theorem dX1_fitting_43 : decode cX1_fitting 43 = .ok (.iload_n 3, 1) := by decide +kernel
theorem dX1_fitting_44 : decode cX1_fitting 44 = .ok (.iconst 5, 1) := by decide +kernel
theorem dX1_fitting_45 : decode cX1_fitting 45 = .ok (.ishr, 1) := by decide +kernel
theorem dX1_fitting_46 : decode cX1_fitting 46 = .ok (.bipush 7, 2) := by decide +kernel
theorem dX1_fitting_48 : decode cX1_fitting 48 = .ok (.iand, 1) := by decide +kernel
theorem dX1_fitting_49 : decode cX1_fitting 49 = .ok (.istore 5, 2) := by decide +kernel
theorem dX1_fitting_51 : decode cX1_fitting 51 = .ok (.iconst 0, 1) := by decide +kernel
theorem dX1_fitting_52 : decode cX1_fitting 52 = .ok (.istore 6, 2) := by decide +kernel
theorem dX1_fitting_54 : decode cX1_fitting 54 = .ok (.iconst 0, 1) := by decide +kernel
theorem dX1_fitting_55 : decode cX1_fitting 55 = .ok (.istore 7, 2) := by decide +kernel
theorem dX1_fitting_57 : decode cX1_fitting 57 = .ok (.iload 7, 2) := by decide +kernel
theorem dX1_fitting_59 : decode cX1_fitting 59 = .ok (.bipush 7, 2) := by decide +kernel
theorem dX1_fitting_61 : decode cX1_fitting 61 = .ok (.if_icmp .ge 91, 3) := by decide +kernel
theorem dX1_fitting_64 : decode cX1_fitting 64 = .ok (.aload_n 0, 1) := by decide +kernel
theorem dX1_fitting_65 : decode cX1_fitting 65 = .ok (.getfield 7, 3) := by decide +kernel
theorem dX1_fitting_68 : decode cX1_fitting 68 = .ok (.iload 7, 2) := by decide +kernel
theorem dX1_fitting_70 : decode cX1_fitting 70 = .ok (.baload, 1) := by decide +kernel
theorem dX1_fitting_71 : decode cX1_fitting 71 = .ok (.ifCond .eq 56, 3) := by decide +kernel
theorem dX1_fitting_74 : decode cX1_fitting 74 = .ok (.aload_n 0, 1) := by decide +kernel
theorem dX1_fitting_75 : decode cX1_fitting 75 = .ok (.getfield 13, 3) := by decide +kernel
theorem dX1_fitting_78 : decode cX1_fitting 78 = .ok (.iload 7, 2) := by decide +kernel
theorem dX1_fitting_80 : decode cX1_fitting 80 = .ok (.iaload, 1) := by decide +kernel
theorem dX1_fitting_81 : decode cX1_fitting 81 = .ok (.iload_n 3, 1) := by decide +kernel
theorem dX1_fitting_82 : decode cX1_fitting 82 = .ok (.iconst 3, 1) := by decide +kernel
theorem dX1_fitting_83 : decode cX1_fitting 83 = .ok (.iand, 1) := by decide +kernel
theorem dX1_fitting_84 : decode cX1_fitting 84 = .ok (.if_icmp .ne 43, 3) := by decide +kernel
theorem dX1_fitting_87 : decode cX1_fitting 87 = .ok (.iload 4, 2) := by decide +kernel
theorem dX1_fitting_89 : decode cX1_fitting 89 = .ok (.iconst 3, 1) := by decide +kernel
theorem dX1_fitting_90 : decode cX1_fitting 90 = .ok (.if_icmp .gt 15, 3) := by decide +kernel
theorem dX1_fitting_93 : decode cX1_fitting 93 = .ok (.iload 4, 2) := by decide +kernel
theorem dX1_fitting_95 : decode cX1_fitting 95 = .ok (.aload_n 0, 1) := by decide +kernel
theorem dX1_fitting_96 : decode cX1_fitting 96 = .ok (.getfield 17, 3) := by decide +kernel
theorem dX1_fitting_99 : decode cX1_fitting 99 = .ok (.iload 7, 2) := by decide +kernel
theorem dX1_fitting_101 : decode cX1_fitting 101 = .ok (.iaload, 1) := by decide +kernel
theorem dX1_fitting_102 : decode cX1_fitting 102 = .ok (.if_icmp .ne 25, 3) := by decide +kernel
theorem dX1_fitting_105 : decode cX1_fitting 105 = .ok (.iload 5, 2) := by decide +kernel
theorem dX1_fitting_107 : decode cX1_fitting 107 = .ok (.iconst 3, 1) := by decide +kernel
theorem dX1_fitting_108 : decode cX1_fitting 108 = .ok (.if_icmp .gt 15, 3) := by decide +kernel
theorem dX1_fitting_111 : decode cX1_fitting 111 = .ok (.iload 5, 2) := by decide +kernel
theorem dX1_fitting_113 : decode cX1_fitting 113 = .ok (.aload_n 0, 1) := by decide +kernel
theorem dX1_fitting_114 : decode cX1_fitting 114 = .ok (.getfield 20, 3) := by decide +kernel
theorem dX1_fitting_117 : decode cX1_fitting 117 = .ok (.iload 7, 2) := by decide +kernel
theorem dX1_fitting_119 : decode cX1_fitting 119 = .ok (.iaload, 1) := by decide +kernel
theorem dX1_fitting_120 : decode cX1_fitting 120 = .ok (.if_icmp .ne 7, 3) := by decide +kernel
theorem dX1_fitting_123 : decode cX1_fitting 123 = .ok (.iconst 1, 1) := by decide +kernel
theorem dX1_fitting_124 : decode cX1_fitting 124 = .ok (.goto 4, 3) := by decide +kernel
theorem dX1_fitting_127 : decode cX1_fitting 127 = .ok (.iconst 0, 1) := by decide +kernel
theorem dX1_fitting_128 : decode cX1_fitting 128 = .ok (.istore 8, 2) := by decide +kernel
theorem dX1_fitting_130 : decode cX1_fitting 130 = .ok (.iload 8, 2) := by decide +kernel
theorem dX1_fitting_132 : decode cX1_fitting 132 = .ok (.ifCond .eq 10, 3) := by decide +kernel
theorem dX1_fitting_135 : decode cX1_fitting 135 = .ok (.iload 6, 2) := by decide +kernel
theorem dX1_fitting_137 : decode cX1_fitting 137 = .ok (.iconst 1, 1) := by decide +kernel
theorem dX1_fitting_138 : decode cX1_fitting 138 = .ok (.iadd, 1) := by decide +kernel
theorem dX1_fitting_139 : decode cX1_fitting 139 = .ok (.goto 5, 3) := by decide +kernel
theorem dX1_fitting_142 : decode cX1_fitting 142 = .ok (.iload 6, 2) := by decide +kernel
theorem dX1_fitting_144 : decode cX1_fitting 144 = .ok (.istore 6, 2) := by decide +kernel
theorem dX1_fitting_146 : decode cX1_fitting 146 = .ok (.iinc 7 1, 3) := by decide +kernel
theorem dX1_fitting_149 : decode cX1_fitting 149 = .ok (.goto (-92), 3) := by decide +kernel
theorem dX1_fitting_152 : decode cX1_fitting 152 = .ok (.iload 6, 2) := by decide +kernel
theorem dX1_fitting_154 : decode cX1_fitting 154 = .ok (.ireturn, 1) := by decide +kernel
abbrev cX1_partial : ByteArray := prog_3_method_19_code
def yX1_partial : MethodName := ⟨RX1, "partial", "(II)I"⟩
theorem dX1_partial_0 : decode cX1_partial 0 = .ok (.aload_n 0, 1) := by decide +kernel
theorem dX1_partial_1 : decode cX1_partial 1 = .ok (.iload_n 1, 1) := by decide +kernel
theorem dX1_partial_2 : decode cX1_partial 2 = .ok (.invokevirtual 32, 3) := by decide +kernel
theorem dX1_partial_5 : decode cX1_partial 5 = .ok (.ifCond .eq 26, 3) := by decide +kernel
theorem dX1_partial_8 : decode cX1_partial 8 = .ok (.iload_n 2, 1) := by decide +kernel
theorem dX1_partial_9 : decode cX1_partial 9 = .ok (.ifCond .lt 22, 3) := by decide +kernel
theorem dX1_partial_12 : decode cX1_partial 12 = .ok (.iload_n 2, 1) := by decide +kernel
theorem dX1_partial_13 : decode cX1_partial 13 = .ok (.aload_n 0, 1) := by decide +kernel
theorem dX1_partial_14 : decode cX1_partial 14 = .ok (.getfield 23, 3) := by decide +kernel
theorem dX1_partial_17 : decode cX1_partial 17 = .ok (.iload_n 1, 1) := by decide +kernel
theorem dX1_partial_18 : decode cX1_partial 18 = .ok (.iaload, 1) := by decide +kernel
theorem dX1_partial_19 : decode cX1_partial 19 = .ok (.if_icmp .gt 12, 3) := by decide +kernel
theorem dX1_partial_22 : decode cX1_partial 22 = .ok (.aload_n 0, 1) := by decide +kernel
theorem dX1_partial_23 : decode cX1_partial 23 = .ok (.iload_n 1, 1) := by decide +kernel
theorem dX1_partial_24 : decode cX1_partial 24 = .ok (.iload_n 2, 1) := by decide +kernel
theorem dX1_partial_25 : decode cX1_partial 25 = .ok (.invokevirtual 53, 3) := by decide +kernel
theorem dX1_partial_28 : decode cX1_partial 28 = .ok (.goto 4, 3) := by decide +kernel
theorem dX1_partial_31 : decode cX1_partial 31 = .ok (.iconst (-1), 1) := by decide +kernel
theorem dX1_partial_32 : decode cX1_partial 32 = .ok (.ireturn, 1) := by decide +kernel
abbrev cX1_effect : ByteArray := prog_3_method_20_code
def yX1_effect : MethodName := ⟨RX1, "effect", "(IIII)I"⟩
theorem dX1_effect_0 : decode cX1_effect 0 = .ok (.aload_n 0, 1) := by decide +kernel
theorem dX1_effect_1 : decode cX1_effect 1 = .ok (.iload_n 1, 1) := by decide +kernel
theorem dX1_effect_2 : decode cX1_effect 2 = .ok (.invokevirtual 32, 3) := by decide +kernel
theorem dX1_effect_5 : decode cX1_effect 5 = .ok (.ifCond .eq 23, 3) := by decide +kernel
theorem dX1_effect_8 : decode cX1_effect 8 = .ok (.aload_n 0, 1) := by decide +kernel
theorem dX1_effect_9 : decode cX1_effect 9 = .ok (.iload_n 2, 1) := by decide +kernel
theorem dX1_effect_10 : decode cX1_effect 10 = .ok (.iload_n 3, 1) := by decide +kernel
theorem dX1_effect_11 : decode cX1_effect 11 = .ok (.iload 4, 2) := by decide +kernel
theorem dX1_effect_13 : decode cX1_effect 13 = .ok (.invokevirtual 36, 3) := by decide +kernel
theorem dX1_effect_16 : decode cX1_effect 16 = .ok (.ifCond .eq 12, 3) := by decide +kernel
theorem dX1_effect_19 : decode cX1_effect 19 = .ok (.aload_n 0, 1) := by decide +kernel
theorem dX1_effect_20 : decode cX1_effect 20 = .ok (.invokevirtual 61, 3) := by decide +kernel
theorem dX1_effect_23 : decode cX1_effect 23 = .ok (.bipush 127, 2) := by decide +kernel
theorem dX1_effect_25 : decode cX1_effect 25 = .ok (.if_icmp .ne 7, 3) := by decide +kernel
theorem dX1_effect_28 : decode cX1_effect 28 = .ok (.sipush (-1000), 3) := by decide +kernel
theorem dX1_effect_31 : decode cX1_effect 31 = .ok (.ireturn, 1) := by decide +kernel
theorem dX1_effect_32 : decode cX1_effect 32 = .ok (.aload_n 0, 1) := by decide +kernel
theorem dX1_effect_33 : decode cX1_effect 33 = .ok (.iload_n 1, 1) := by decide +kernel
theorem dX1_effect_34 : decode cX1_effect 34 = .ok (.invokevirtual 57, 3) := by decide +kernel
theorem dX1_effect_37 : decode cX1_effect 37 = .ok (.istore 5, 2) := by decide +kernel
theorem dX1_effect_39 : decode cX1_effect 39 = .ok (.aload_n 0, 1) := by decide +kernel
theorem dX1_effect_40 : decode cX1_effect 40 = .ok (.iload_n 2, 1) := by decide +kernel
theorem dX1_effect_41 : decode cX1_effect 41 = .ok (.iload_n 3, 1) := by decide +kernel
theorem dX1_effect_42 : decode cX1_effect 42 = .ok (.iload 4, 2) := by decide +kernel
theorem dX1_effect_44 : decode cX1_effect 44 = .ok (.invokevirtual 65, 3) := by decide +kernel
theorem dX1_effect_47 : decode cX1_effect 47 = .ok (.istore 6, 2) := by decide +kernel
theorem dX1_effect_49 : decode cX1_effect 49 = .ok (.aload_n 0, 1) := by decide +kernel
theorem dX1_effect_50 : decode cX1_effect 50 = .ok (.iload_n 1, 1) := by decide +kernel
theorem dX1_effect_51 : decode cX1_effect 51 = .ok (.invokevirtual 57, 3) := by decide +kernel
theorem dX1_effect_54 : decode cX1_effect 54 = .ok (.istore 7, 2) := by decide +kernel
theorem dX1_effect_56 : decode cX1_effect 56 = .ok (.aload_n 0, 1) := by decide +kernel
theorem dX1_effect_57 : decode cX1_effect 57 = .ok (.iload 6, 2) := by decide +kernel
theorem dX1_effect_59 : decode cX1_effect 59 = .ok (.invokevirtual 69, 3) := by decide +kernel
theorem dX1_effect_62 : decode cX1_effect 62 = .ok (.pop, 1) := by decide +kernel
theorem dX1_effect_63 : decode cX1_effect 63 = .ok (.iload 7, 2) := by decide +kernel
theorem dX1_effect_65 : decode cX1_effect 65 = .ok (.iload 5, 2) := by decide +kernel
theorem dX1_effect_67 : decode cX1_effect 67 = .ok (.isub, 1) := by decide +kernel
theorem dX1_effect_68 : decode cX1_effect 68 = .ok (.ireturn, 1) := by decide +kernel
theorem q22 : (Jvm.Cond.initialized "ReteEngineModel") ∈ lw_all := lw_g (lw_at lw_m1 2 rfl) rfl
theorem q196 : (Jvm.Cond.instantiable "ReteEngineModel" (7 : Nat)) ∈ lw_all := lw_g (lw_at lw_m1 176 rfl) rfl
theorem q198 : (Jvm.Cond.instanceMethod ({ cls := "ReteEngineModel", name := "<init>", desc := "()V" } : Jvm.MethodName)) ∈ lw_all := lw_g (lw_at lw_m1 178 rfl) rfl
theorem q199 : (Jvm.Cond.code ({ cls := "ReteEngineModel", name := "<init>", desc := "()V" } : Jvm.MethodName) prog_3_method_1_code (1 : Nat) (Option.none : Option Jvm.ClassFile.FieldType)) ∈ lw_all := lw_g (lw_at lw_m1 179 rfl) rfl
theorem q200 : (Jvm.Cond.methodLink "ReteEngineModel" (1 : Nat) ({ cls := "java/lang/Object", name := "<init>", desc := "()V" } : Jvm.MethodName)) ∈ lw_all := lw_g (lw_at lw_m1 180 rfl) rfl
theorem q201 : (Jvm.Cond.fieldLink "ReteEngineModel" (7 : Nat) "ReteEngineModel" "there" "[Z") ∈ lw_all := lw_g (lw_at lw_m1 181 rfl) rfl
theorem q202 : (Jvm.Cond.fieldLink "ReteEngineModel" (13 : Nat) "ReteEngineModel" "kinds" "[I") ∈ lw_all := lw_g (lw_at lw_m1 182 rfl) rfl
theorem q203 : (Jvm.Cond.fieldLink "ReteEngineModel" (17 : Nat) "ReteEngineModel" "as" "[I") ∈ lw_all := lw_g (lw_at lw_m1 183 rfl) rfl
theorem q204 : (Jvm.Cond.fieldLink "ReteEngineModel" (20 : Nat) "ReteEngineModel" "bs" "[I") ∈ lw_all := lw_g (lw_at lw_m1 184 rfl) rfl
theorem q205 : (Jvm.Cond.fieldLink "ReteEngineModel" (23 : Nat) "ReteEngineModel" "size" "[I") ∈ lw_all := lw_g (lw_at lw_m1 185 rfl) rfl
theorem q206 : (Jvm.Cond.fieldLink "ReteEngineModel" (26 : Nat) "ReteEngineModel" "whats" "[I") ∈ lw_all := lw_g (lw_at lw_m1 186 rfl) rfl
theorem q207 : (Jvm.Cond.fieldLink "ReteEngineModel" (29 : Nat) "ReteEngineModel" "bound" "[I") ∈ lw_all := lw_g (lw_at lw_m1 187 rfl) rfl
theorem q208 : (Jvm.Cond.lays "ReteEngineModel" "ReteEngineModel" "there" "[Z") ∈ lw_all := lw_g (lw_at lw_m1 188 rfl) rfl
theorem q209 : (Jvm.Cond.soleField "ReteEngineModel" "there") ∈ lw_all := lw_g (lw_at lw_m1 189 rfl) rfl
theorem q210 : (Jvm.Cond.lays "ReteEngineModel" "ReteEngineModel" "kinds" "[I") ∈ lw_all := lw_g (lw_at lw_m1 190 rfl) rfl
theorem q211 : (Jvm.Cond.soleField "ReteEngineModel" "kinds") ∈ lw_all := lw_g (lw_at lw_m1 191 rfl) rfl
theorem q212 : (Jvm.Cond.lays "ReteEngineModel" "ReteEngineModel" "as" "[I") ∈ lw_all := lw_g (lw_at lw_m1 192 rfl) rfl
theorem q213 : (Jvm.Cond.soleField "ReteEngineModel" "as") ∈ lw_all := lw_g (lw_at lw_m1 193 rfl) rfl
theorem q214 : (Jvm.Cond.lays "ReteEngineModel" "ReteEngineModel" "bs" "[I") ∈ lw_all := lw_g (lw_at lw_m1 194 rfl) rfl
theorem q215 : (Jvm.Cond.soleField "ReteEngineModel" "bs") ∈ lw_all := lw_g (lw_at lw_m1 195 rfl) rfl
theorem q216 : (Jvm.Cond.lays "ReteEngineModel" "ReteEngineModel" "size" "[I") ∈ lw_all := lw_g (lw_at lw_m1 196 rfl) rfl
theorem q217 : (Jvm.Cond.soleField "ReteEngineModel" "size") ∈ lw_all := lw_g (lw_at lw_m1 197 rfl) rfl
theorem q218 : (Jvm.Cond.lays "ReteEngineModel" "ReteEngineModel" "whats" "[I") ∈ lw_all := lw_g (lw_at lw_m1 198 rfl) rfl
theorem q219 : (Jvm.Cond.soleField "ReteEngineModel" "whats") ∈ lw_all := lw_g (lw_at lw_m1 199 rfl) rfl
theorem q220 : (Jvm.Cond.lays "ReteEngineModel" "ReteEngineModel" "bound" "[I") ∈ lw_all := lw_g (lw_at lw_m1 200 rfl) rfl
theorem q221 : (Jvm.Cond.soleField "ReteEngineModel" "bound") ∈ lw_all := lw_g (lw_at lw_m1 201 rfl) rfl
theorem q222 : (Jvm.Cond.superclass "ReteEngineModel" "java/lang/Object") ∈ lw_all := lw_g (lw_at lw_m1 202 rfl) rfl
theorem q225 : (Jvm.Cond.instanceMethod ({ cls := "ReteEngineModel", name := "condition", desc := "(II)I" } : Jvm.MethodName)) ∈ lw_all := lw_g (lw_at lw_m1 205 rfl) rfl
theorem q226 : (Jvm.Cond.selects "ReteEngineModel" ({ cls := "ReteEngineModel", name := "condition", desc := "(II)I" } : Jvm.MethodName) ({ cls := "ReteEngineModel", name := "condition", desc := "(II)I" } : Jvm.MethodName)) ∈ lw_all := lw_g (lw_at lw_m1 206 rfl) rfl
theorem q227 : (Jvm.Cond.code ({ cls := "ReteEngineModel", name := "condition", desc := "(II)I" } : Jvm.MethodName) prog_3_method_3_code (3 : Nat) (Option.some Jvm.ClassFile.FieldType.int)) ∈ lw_all := lw_g (lw_at lw_m1 207 rfl) rfl
theorem q228 : (Jvm.Cond.methodLink "ReteEngineModel" (32 : Nat) ({ cls := "ReteEngineModel", name := "rule", desc := "(I)Z" } : Jvm.MethodName)) ∈ lw_all := lw_g (lw_at lw_m1 208 rfl) rfl
theorem q229 : (Jvm.Cond.privateMethod ({ cls := "ReteEngineModel", name := "rule", desc := "(I)Z" } : Jvm.MethodName)) ∈ lw_tbl := lw_at lw_m1 209 rfl
theorem q230 : (Jvm.Cond.instanceMethod ({ cls := "ReteEngineModel", name := "rule", desc := "(I)Z" } : Jvm.MethodName)) ∈ lw_all := lw_g (lw_at lw_m1 210 rfl) rfl
theorem q231 : (Jvm.Cond.code ({ cls := "ReteEngineModel", name := "rule", desc := "(I)Z" } : Jvm.MethodName) prog_3_method_2_code (2 : Nat) (Option.some Jvm.ClassFile.FieldType.boolean)) ∈ lw_all := lw_g (lw_at lw_m1 211 rfl) rfl
theorem q233 : (Jvm.Cond.instanceMethod ({ cls := "ReteEngineModel", name := "drop", desc := "(I)I" } : Jvm.MethodName)) ∈ lw_all := lw_g (lw_at lw_m1 213 rfl) rfl
theorem q234 : (Jvm.Cond.selects "ReteEngineModel" ({ cls := "ReteEngineModel", name := "drop", desc := "(I)I" } : Jvm.MethodName) ({ cls := "ReteEngineModel", name := "drop", desc := "(I)I" } : Jvm.MethodName)) ∈ lw_all := lw_g (lw_at lw_m1 214 rfl) rfl
theorem q235 : (Jvm.Cond.code ({ cls := "ReteEngineModel", name := "drop", desc := "(I)I" } : Jvm.MethodName) prog_3_method_4_code (2 : Nat) (Option.some Jvm.ClassFile.FieldType.int)) ∈ lw_all := lw_g (lw_at lw_m1 215 rfl) rfl
theorem q237 : (Jvm.Cond.instanceMethod ({ cls := "ReteEngineModel", name := "add", desc := "(III)I" } : Jvm.MethodName)) ∈ lw_all := lw_g (lw_at lw_m1 217 rfl) rfl
theorem q238 : (Jvm.Cond.selects "ReteEngineModel" ({ cls := "ReteEngineModel", name := "add", desc := "(III)I" } : Jvm.MethodName) ({ cls := "ReteEngineModel", name := "add", desc := "(III)I" } : Jvm.MethodName)) ∈ lw_all := lw_g (lw_at lw_m1 218 rfl) rfl
theorem q239 : (Jvm.Cond.code ({ cls := "ReteEngineModel", name := "add", desc := "(III)I" } : Jvm.MethodName) prog_3_method_6_code (5 : Nat) (Option.some Jvm.ClassFile.FieldType.int)) ∈ lw_all := lw_g (lw_at lw_m1 219 rfl) rfl
theorem q240 : (Jvm.Cond.methodLink "ReteEngineModel" (36 : Nat) ({ cls := "ReteEngineModel", name := "fact", desc := "(III)Z" } : Jvm.MethodName)) ∈ lw_all := lw_g (lw_at lw_m1 220 rfl) rfl
theorem q241 : (Jvm.Cond.privateMethod ({ cls := "ReteEngineModel", name := "fact", desc := "(III)Z" } : Jvm.MethodName)) ∈ lw_tbl := lw_at lw_m1 221 rfl
theorem q242 : (Jvm.Cond.instanceMethod ({ cls := "ReteEngineModel", name := "fact", desc := "(III)Z" } : Jvm.MethodName)) ∈ lw_all := lw_g (lw_at lw_m1 222 rfl) rfl
theorem q243 : (Jvm.Cond.code ({ cls := "ReteEngineModel", name := "fact", desc := "(III)Z" } : Jvm.MethodName) prog_3_method_5_code (4 : Nat) (Option.some Jvm.ClassFile.FieldType.boolean)) ∈ lw_all := lw_g (lw_at lw_m1 223 rfl) rfl
theorem q245 : (Jvm.Cond.instanceMethod ({ cls := "ReteEngineModel", name := "remove", desc := "(I)Z" } : Jvm.MethodName)) ∈ lw_all := lw_g (lw_at lw_m1 225 rfl) rfl
theorem q246 : (Jvm.Cond.selects "ReteEngineModel" ({ cls := "ReteEngineModel", name := "remove", desc := "(I)Z" } : Jvm.MethodName) ({ cls := "ReteEngineModel", name := "remove", desc := "(I)Z" } : Jvm.MethodName)) ∈ lw_all := lw_g (lw_at lw_m1 226 rfl) rfl
theorem q247 : (Jvm.Cond.code ({ cls := "ReteEngineModel", name := "remove", desc := "(I)Z" } : Jvm.MethodName) prog_3_method_7_code (2 : Nat) (Option.some Jvm.ClassFile.FieldType.boolean)) ∈ lw_all := lw_g (lw_at lw_m1 227 rfl) rfl
theorem q249 : (Jvm.Cond.instanceMethod ({ cls := "ReteEngineModel", name := "facts", desc := "()I" } : Jvm.MethodName)) ∈ lw_all := lw_g (lw_at lw_m1 229 rfl) rfl
theorem q250 : (Jvm.Cond.selects "ReteEngineModel" ({ cls := "ReteEngineModel", name := "facts", desc := "()I" } : Jvm.MethodName) ({ cls := "ReteEngineModel", name := "facts", desc := "()I" } : Jvm.MethodName)) ∈ lw_all := lw_g (lw_at lw_m1 230 rfl) rfl
theorem q251 : (Jvm.Cond.code ({ cls := "ReteEngineModel", name := "facts", desc := "()I" } : Jvm.MethodName) prog_3_method_8_code (3 : Nat) (Option.some Jvm.ClassFile.FieldType.int)) ∈ lw_all := lw_g (lw_at lw_m1 231 rfl) rfl
theorem q253 : (Jvm.Cond.instanceMethod ({ cls := "ReteEngineModel", name := "matches", desc := "(I)I" } : Jvm.MethodName)) ∈ lw_all := lw_g (lw_at lw_m1 233 rfl) rfl
theorem q254 : (Jvm.Cond.selects "ReteEngineModel" ({ cls := "ReteEngineModel", name := "matches", desc := "(I)I" } : Jvm.MethodName) ({ cls := "ReteEngineModel", name := "matches", desc := "(I)I" } : Jvm.MethodName)) ∈ lw_all := lw_g (lw_at lw_m1 234 rfl) rfl
theorem q255 : (Jvm.Cond.code ({ cls := "ReteEngineModel", name := "matches", desc := "(I)I" } : Jvm.MethodName) prog_3_method_14_code (2 : Nat) (Option.some Jvm.ClassFile.FieldType.int)) ∈ lw_all := lw_g (lw_at lw_m1 235 rfl) rfl
theorem q256 : (Jvm.Cond.methodLink "ReteEngineModel" (53 : Nat) ({ cls := "ReteEngineModel", name := "count", desc := "(II)I" } : Jvm.MethodName)) ∈ lw_all := lw_g (lw_at lw_m1 236 rfl) rfl
theorem q257 : (Jvm.Cond.privateMethod ({ cls := "ReteEngineModel", name := "count", desc := "(II)I" } : Jvm.MethodName)) ∈ lw_tbl := lw_at lw_m1 237 rfl
theorem q258 : (Jvm.Cond.instanceMethod ({ cls := "ReteEngineModel", name := "count", desc := "(II)I" } : Jvm.MethodName)) ∈ lw_all := lw_g (lw_at lw_m1 238 rfl) rfl
theorem q259 : (Jvm.Cond.code ({ cls := "ReteEngineModel", name := "count", desc := "(II)I" } : Jvm.MethodName) prog_3_method_13_code (5 : Nat) (Option.some Jvm.ClassFile.FieldType.int)) ∈ lw_all := lw_g (lw_at lw_m1 239 rfl) rfl
theorem q260 : (Jvm.Cond.methodLink "ReteEngineModel" (50 : Nat) ({ cls := "ReteEngineModel", name := "isMatch", desc := "(III)Z" } : Jvm.MethodName)) ∈ lw_all := lw_g (lw_at lw_m2 0 rfl) rfl
theorem q261 : (Jvm.Cond.privateMethod ({ cls := "ReteEngineModel", name := "isMatch", desc := "(III)Z" } : Jvm.MethodName)) ∈ lw_tbl := lw_at lw_m2 1 rfl
theorem q262 : (Jvm.Cond.instanceMethod ({ cls := "ReteEngineModel", name := "isMatch", desc := "(III)Z" } : Jvm.MethodName)) ∈ lw_all := lw_g (lw_at lw_m2 2 rfl) rfl
theorem q263 : (Jvm.Cond.code ({ cls := "ReteEngineModel", name := "isMatch", desc := "(III)Z" } : Jvm.MethodName) prog_3_method_12_code (9 : Nat) (Option.some Jvm.ClassFile.FieldType.boolean)) ∈ lw_all := lw_g (lw_at lw_m2 3 rfl) rfl
theorem q264 : (Jvm.Cond.methodLink "ReteEngineModel" (47 : Nat) ({ cls := "ReteEngineModel", name := "none", desc := "(I)Z" } : Jvm.MethodName)) ∈ lw_all := lw_g (lw_at lw_m2 4 rfl) rfl
theorem q265 : (Jvm.Cond.privateMethod ({ cls := "ReteEngineModel", name := "none", desc := "(I)Z" } : Jvm.MethodName)) ∈ lw_tbl := lw_at lw_m2 5 rfl
theorem q266 : (Jvm.Cond.instanceMethod ({ cls := "ReteEngineModel", name := "none", desc := "(I)Z" } : Jvm.MethodName)) ∈ lw_all := lw_g (lw_at lw_m2 6 rfl) rfl
theorem q267 : (Jvm.Cond.code ({ cls := "ReteEngineModel", name := "none", desc := "(I)Z" } : Jvm.MethodName) prog_3_method_11_code (7 : Nat) (Option.some Jvm.ClassFile.FieldType.boolean)) ∈ lw_all := lw_g (lw_at lw_m2 7 rfl) rfl
theorem q268 : (Jvm.Cond.methodLink "ReteEngineModel" (44 : Nat) ({ cls := "ReteEngineModel", name := "takes", desc := "(II)Z" } : Jvm.MethodName)) ∈ lw_all := lw_g (lw_at lw_m2 8 rfl) rfl
theorem q269 : (Jvm.Cond.privateMethod ({ cls := "ReteEngineModel", name := "takes", desc := "(II)Z" } : Jvm.MethodName)) ∈ lw_tbl := lw_at lw_m2 9 rfl
theorem q270 : (Jvm.Cond.instanceMethod ({ cls := "ReteEngineModel", name := "takes", desc := "(II)Z" } : Jvm.MethodName)) ∈ lw_all := lw_g (lw_at lw_m2 10 rfl) rfl
theorem q271 : (Jvm.Cond.code ({ cls := "ReteEngineModel", name := "takes", desc := "(II)Z" } : Jvm.MethodName) prog_3_method_10_code (3 : Nat) (Option.some Jvm.ClassFile.FieldType.boolean)) ∈ lw_all := lw_g (lw_at lw_m2 11 rfl) rfl
theorem q272 : (Jvm.Cond.methodLink "ReteEngineModel" (40 : Nat) ({ cls := "ReteEngineModel", name := "fits", desc := "(II)Z" } : Jvm.MethodName)) ∈ lw_all := lw_g (lw_at lw_m2 12 rfl) rfl
theorem q273 : (Jvm.Cond.privateMethod ({ cls := "ReteEngineModel", name := "fits", desc := "(II)Z" } : Jvm.MethodName)) ∈ lw_tbl := lw_at lw_m2 13 rfl
theorem q274 : (Jvm.Cond.instanceMethod ({ cls := "ReteEngineModel", name := "fits", desc := "(II)Z" } : Jvm.MethodName)) ∈ lw_all := lw_g (lw_at lw_m2 14 rfl) rfl
theorem q275 : (Jvm.Cond.code ({ cls := "ReteEngineModel", name := "fits", desc := "(II)Z" } : Jvm.MethodName) prog_3_method_9_code (4 : Nat) (Option.some Jvm.ClassFile.FieldType.boolean)) ∈ lw_all := lw_g (lw_at lw_m2 15 rfl) rfl
theorem q277 : (Jvm.Cond.instanceMethod ({ cls := "ReteEngineModel", name := "match", desc := "(II)I" } : Jvm.MethodName)) ∈ lw_all := lw_g (lw_at lw_m2 17 rfl) rfl
theorem q278 : (Jvm.Cond.selects "ReteEngineModel" ({ cls := "ReteEngineModel", name := "match", desc := "(II)I" } : Jvm.MethodName) ({ cls := "ReteEngineModel", name := "match", desc := "(II)I" } : Jvm.MethodName)) ∈ lw_all := lw_g (lw_at lw_m2 18 rfl) rfl
theorem q279 : (Jvm.Cond.code ({ cls := "ReteEngineModel", name := "match", desc := "(II)I" } : Jvm.MethodName) prog_3_method_15_code (5 : Nat) (Option.some Jvm.ClassFile.FieldType.int)) ∈ lw_all := lw_g (lw_at lw_m2 19 rfl) rfl
theorem q281 : (Jvm.Cond.instanceMethod ({ cls := "ReteEngineModel", name := "ready", desc := "()I" } : Jvm.MethodName)) ∈ lw_all := lw_g (lw_at lw_m2 21 rfl) rfl
theorem q282 : (Jvm.Cond.selects "ReteEngineModel" ({ cls := "ReteEngineModel", name := "ready", desc := "()I" } : Jvm.MethodName) ({ cls := "ReteEngineModel", name := "ready", desc := "()I" } : Jvm.MethodName)) ∈ lw_all := lw_g (lw_at lw_m2 22 rfl) rfl
theorem q283 : (Jvm.Cond.code ({ cls := "ReteEngineModel", name := "ready", desc := "()I" } : Jvm.MethodName) prog_3_method_16_code (3 : Nat) (Option.some Jvm.ClassFile.FieldType.int)) ∈ lw_all := lw_g (lw_at lw_m2 23 rfl) rfl
theorem q284 : (Jvm.Cond.methodLink "ReteEngineModel" (57 : Nat) ({ cls := "ReteEngineModel", name := "matches", desc := "(I)I" } : Jvm.MethodName)) ∈ lw_all := lw_g (lw_at lw_m2 24 rfl) rfl
theorem q286 : (Jvm.Cond.instanceMethod ({ cls := "ReteEngineModel", name := "uses", desc := "(I)I" } : Jvm.MethodName)) ∈ lw_all := lw_g (lw_at lw_m2 26 rfl) rfl
theorem q287 : (Jvm.Cond.selects "ReteEngineModel" ({ cls := "ReteEngineModel", name := "uses", desc := "(I)I" } : Jvm.MethodName) ({ cls := "ReteEngineModel", name := "uses", desc := "(I)I" } : Jvm.MethodName)) ∈ lw_all := lw_g (lw_at lw_m2 27 rfl) rfl
theorem q288 : (Jvm.Cond.code ({ cls := "ReteEngineModel", name := "uses", desc := "(I)I" } : Jvm.MethodName) prog_3_method_17_code (6 : Nat) (Option.some Jvm.ClassFile.FieldType.int)) ∈ lw_all := lw_g (lw_at lw_m2 28 rfl) rfl
theorem q290 : (Jvm.Cond.instanceMethod ({ cls := "ReteEngineModel", name := "fitting", desc := "(II)I" } : Jvm.MethodName)) ∈ lw_all := lw_g (lw_at lw_m2 30 rfl) rfl
theorem q291 : (Jvm.Cond.selects "ReteEngineModel" ({ cls := "ReteEngineModel", name := "fitting", desc := "(II)I" } : Jvm.MethodName) ({ cls := "ReteEngineModel", name := "fitting", desc := "(II)I" } : Jvm.MethodName)) ∈ lw_all := lw_g (lw_at lw_m2 31 rfl) rfl
theorem q292 : (Jvm.Cond.code ({ cls := "ReteEngineModel", name := "fitting", desc := "(II)I" } : Jvm.MethodName) prog_3_method_18_code (9 : Nat) (Option.some Jvm.ClassFile.FieldType.int)) ∈ lw_all := lw_g (lw_at lw_m2 32 rfl) rfl
theorem q294 : (Jvm.Cond.instanceMethod ({ cls := "ReteEngineModel", name := "partial", desc := "(II)I" } : Jvm.MethodName)) ∈ lw_all := lw_g (lw_at lw_m2 34 rfl) rfl
theorem q295 : (Jvm.Cond.selects "ReteEngineModel" ({ cls := "ReteEngineModel", name := "partial", desc := "(II)I" } : Jvm.MethodName) ({ cls := "ReteEngineModel", name := "partial", desc := "(II)I" } : Jvm.MethodName)) ∈ lw_all := lw_g (lw_at lw_m2 35 rfl) rfl
theorem q296 : (Jvm.Cond.code ({ cls := "ReteEngineModel", name := "partial", desc := "(II)I" } : Jvm.MethodName) prog_3_method_19_code (3 : Nat) (Option.some Jvm.ClassFile.FieldType.int)) ∈ lw_all := lw_g (lw_at lw_m2 36 rfl) rfl
theorem q298 : (Jvm.Cond.instanceMethod ({ cls := "ReteEngineModel", name := "effect", desc := "(IIII)I" } : Jvm.MethodName)) ∈ lw_all := lw_g (lw_at lw_m2 38 rfl) rfl
theorem q299 : (Jvm.Cond.selects "ReteEngineModel" ({ cls := "ReteEngineModel", name := "effect", desc := "(IIII)I" } : Jvm.MethodName) ({ cls := "ReteEngineModel", name := "effect", desc := "(IIII)I" } : Jvm.MethodName)) ∈ lw_all := lw_g (lw_at lw_m2 39 rfl) rfl
theorem q300 : (Jvm.Cond.code ({ cls := "ReteEngineModel", name := "effect", desc := "(IIII)I" } : Jvm.MethodName) prog_3_method_20_code (8 : Nat) (Option.some Jvm.ClassFile.FieldType.int)) ∈ lw_all := lw_g (lw_at lw_m2 40 rfl) rfl
theorem q301 : (Jvm.Cond.methodLink "ReteEngineModel" (61 : Nat) ({ cls := "ReteEngineModel", name := "facts", desc := "()I" } : Jvm.MethodName)) ∈ lw_all := lw_g (lw_at lw_m2 41 rfl) rfl
theorem q302 : (Jvm.Cond.methodLink "ReteEngineModel" (65 : Nat) ({ cls := "ReteEngineModel", name := "add", desc := "(III)I" } : Jvm.MethodName)) ∈ lw_all := lw_g (lw_at lw_m2 42 rfl) rfl
theorem q303 : (Jvm.Cond.methodLink "ReteEngineModel" (69 : Nat) ({ cls := "ReteEngineModel", name := "remove", desc := "(I)Z" } : Jvm.MethodName)) ∈ lw_all := lw_g (lw_at lw_m2 43 rfl) rfl
theorem in_X1 : ∀ w ∈ wsX10, w ∈ lw_all := lw_in wsX10 [208, 210, 212, 214, 216, 218, 220] (by decide +kernel) (by decide +kernel)
end
section
/-! java/lang/Object -/
set_option maxRecDepth 100000
def RJ0 : String := "java/lang/Object"
abbrev cJ0_init : ByteArray := object_method_1_code
def yJ0_init : MethodName := ⟨RJ0, "<init>", "()V"⟩
theorem dJ0_init_0 : decode cJ0_init 0 = .ok (.return_, 1) := by decide +kernel
theorem q29 : (Jvm.Cond.instanceMethod ({ cls := "java/lang/Object", name := "<init>", desc := "()V" } : Jvm.MethodName)) ∈ lw_all := lw_g (lw_at lw_m1 9 rfl) rfl
theorem q30 : (Jvm.Cond.code ({ cls := "java/lang/Object", name := "<init>", desc := "()V" } : Jvm.MethodName) object_method_1_code (1 : Nat) (Option.none : Option Jvm.ClassFile.FieldType)) ∈ lw_all := lw_g (lw_at lw_m1 10 rfl) rfl
theorem q71 : (Jvm.Cond.arrayClass Jvm.ClassFile.FieldType.byte) ∈ lw_all := lw_g (lw_at lw_m1 51 rfl) rfl
set_option maxRecDepth 100000
theorem q72 : (Jvm.Cond.arrayClass Jvm.ClassFile.FieldType.boolean) ∈ lw_all := lw_g (lw_at lw_m1 52 rfl) rfl
theorem q73 : (Jvm.Cond.arrayClass Jvm.ClassFile.FieldType.long) ∈ lw_all := lw_g (lw_at lw_m1 53 rfl) rfl
theorem q223 : (Jvm.Cond.arrayClass Jvm.ClassFile.FieldType.int) ∈ lw_all := lw_g (lw_at lw_m1 203 rfl) rfl
theorem q20 : (Jvm.Cond.initialized "ReteEngineLaw") ∈ lw_all := lw_g (lw_at lw_m1 0 rfl) rfl
set_option maxRecDepth 100000
theorem q23 : (Jvm.Cond.classLink "ReteEngineLaw" (7 : Nat) "ReteEngine") ∈ lw_all := lw_g (lw_at lw_m1 3 rfl) rfl
theorem q25 : (Jvm.Cond.methodLink "ReteEngineLaw" (9 : Nat) ({ cls := "ReteEngine", name := "<init>", desc := "()V" } : Jvm.MethodName)) ∈ lw_all := lw_g (lw_at lw_m1 5 rfl) rfl
theorem q74 : (Jvm.Cond.methodLink "ReteEngineLaw" (13 : Nat) ({ cls := "ReteEngine", name := "condition", desc := "(II)I" } : Jvm.MethodName)) ∈ lw_all := lw_g (lw_at lw_m1 54 rfl) rfl
theorem q131 : (Jvm.Cond.methodLink "ReteEngineLaw" (18 : Nat) ({ cls := "ReteEngine", name := "drop", desc := "(I)I" } : Jvm.MethodName)) ∈ lw_all := lw_g (lw_at lw_m1 111 rfl) rfl
theorem q135 : (Jvm.Cond.methodLink "ReteEngineLaw" (23 : Nat) ({ cls := "ReteEngine", name := "add", desc := "(III)I" } : Jvm.MethodName)) ∈ lw_all := lw_g (lw_at lw_m1 115 rfl) rfl
theorem q142 : (Jvm.Cond.methodLink "ReteEngineLaw" (28 : Nat) ({ cls := "ReteEngine", name := "remove", desc := "(I)Z" } : Jvm.MethodName)) ∈ lw_all := lw_g (lw_at lw_m1 122 rfl) rfl
theorem q146 : (Jvm.Cond.methodLink "ReteEngineLaw" (33 : Nat) ({ cls := "ReteEngine", name := "facts", desc := "()I" } : Jvm.MethodName)) ∈ lw_all := lw_g (lw_at lw_m1 126 rfl) rfl
theorem q150 : (Jvm.Cond.methodLink "ReteEngineLaw" (38 : Nat) ({ cls := "ReteEngine", name := "matches", desc := "(I)I" } : Jvm.MethodName)) ∈ lw_all := lw_g (lw_at lw_m1 130 rfl) rfl
theorem q158 : (Jvm.Cond.methodLink "ReteEngineLaw" (42 : Nat) ({ cls := "ReteEngine", name := "match", desc := "(II)I" } : Jvm.MethodName)) ∈ lw_all := lw_g (lw_at lw_m1 138 rfl) rfl
theorem q162 : (Jvm.Cond.methodLink "ReteEngineLaw" (46 : Nat) ({ cls := "ReteEngine", name := "ready", desc := "()I" } : Jvm.MethodName)) ∈ lw_all := lw_g (lw_at lw_m1 142 rfl) rfl
theorem q167 : (Jvm.Cond.methodLink "ReteEngineLaw" (50 : Nat) ({ cls := "ReteEngine", name := "uses", desc := "(I)I" } : Jvm.MethodName)) ∈ lw_all := lw_g (lw_at lw_m1 147 rfl) rfl
theorem q174 : (Jvm.Cond.methodLink "ReteEngineLaw" (54 : Nat) ({ cls := "ReteEngine", name := "fitting", desc := "(II)I" } : Jvm.MethodName)) ∈ lw_all := lw_g (lw_at lw_m1 154 rfl) rfl
theorem q185 : (Jvm.Cond.methodLink "ReteEngineLaw" (58 : Nat) ({ cls := "ReteEngine", name := "partial", desc := "(II)I" } : Jvm.MethodName)) ∈ lw_all := lw_g (lw_at lw_m1 165 rfl) rfl
theorem q189 : (Jvm.Cond.methodLink "ReteEngineLaw" (62 : Nat) ({ cls := "ReteEngine", name := "effect", desc := "(IIII)I" } : Jvm.MethodName)) ∈ lw_all := lw_g (lw_at lw_m1 169 rfl) rfl
theorem q195 : (Jvm.Cond.classLink "ReteEngineLaw" (10 : Nat) "ReteEngineModel") ∈ lw_all := lw_g (lw_at lw_m1 175 rfl) rfl
theorem q197 : (Jvm.Cond.methodLink "ReteEngineLaw" (12 : Nat) ({ cls := "ReteEngineModel", name := "<init>", desc := "()V" } : Jvm.MethodName)) ∈ lw_all := lw_g (lw_at lw_m1 177 rfl) rfl
theorem q224 : (Jvm.Cond.methodLink "ReteEngineLaw" (17 : Nat) ({ cls := "ReteEngineModel", name := "condition", desc := "(II)I" } : Jvm.MethodName)) ∈ lw_all := lw_g (lw_at lw_m1 204 rfl) rfl
theorem q232 : (Jvm.Cond.methodLink "ReteEngineLaw" (22 : Nat) ({ cls := "ReteEngineModel", name := "drop", desc := "(I)I" } : Jvm.MethodName)) ∈ lw_all := lw_g (lw_at lw_m1 212 rfl) rfl
theorem q236 : (Jvm.Cond.methodLink "ReteEngineLaw" (27 : Nat) ({ cls := "ReteEngineModel", name := "add", desc := "(III)I" } : Jvm.MethodName)) ∈ lw_all := lw_g (lw_at lw_m1 216 rfl) rfl
theorem q244 : (Jvm.Cond.methodLink "ReteEngineLaw" (32 : Nat) ({ cls := "ReteEngineModel", name := "remove", desc := "(I)Z" } : Jvm.MethodName)) ∈ lw_all := lw_g (lw_at lw_m1 224 rfl) rfl
theorem q248 : (Jvm.Cond.methodLink "ReteEngineLaw" (37 : Nat) ({ cls := "ReteEngineModel", name := "facts", desc := "()I" } : Jvm.MethodName)) ∈ lw_all := lw_g (lw_at lw_m1 228 rfl) rfl
theorem q252 : (Jvm.Cond.methodLink "ReteEngineLaw" (41 : Nat) ({ cls := "ReteEngineModel", name := "matches", desc := "(I)I" } : Jvm.MethodName)) ∈ lw_all := lw_g (lw_at lw_m1 232 rfl) rfl
theorem q276 : (Jvm.Cond.methodLink "ReteEngineLaw" (45 : Nat) ({ cls := "ReteEngineModel", name := "match", desc := "(II)I" } : Jvm.MethodName)) ∈ lw_all := lw_g (lw_at lw_m2 16 rfl) rfl
theorem q280 : (Jvm.Cond.methodLink "ReteEngineLaw" (49 : Nat) ({ cls := "ReteEngineModel", name := "ready", desc := "()I" } : Jvm.MethodName)) ∈ lw_all := lw_g (lw_at lw_m2 20 rfl) rfl
theorem q285 : (Jvm.Cond.methodLink "ReteEngineLaw" (53 : Nat) ({ cls := "ReteEngineModel", name := "uses", desc := "(I)I" } : Jvm.MethodName)) ∈ lw_all := lw_g (lw_at lw_m2 25 rfl) rfl
theorem q289 : (Jvm.Cond.methodLink "ReteEngineLaw" (57 : Nat) ({ cls := "ReteEngineModel", name := "fitting", desc := "(II)I" } : Jvm.MethodName)) ∈ lw_all := lw_g (lw_at lw_m2 29 rfl) rfl
theorem q293 : (Jvm.Cond.methodLink "ReteEngineLaw" (61 : Nat) ({ cls := "ReteEngineModel", name := "partial", desc := "(II)I" } : Jvm.MethodName)) ∈ lw_all := lw_g (lw_at lw_m2 33 rfl) rfl
theorem q297 : (Jvm.Cond.methodLink "ReteEngineLaw" (66 : Nat) ({ cls := "ReteEngineModel", name := "effect", desc := "(IIII)I" } : Jvm.MethodName)) ∈ lw_all := lw_g (lw_at lw_m2 37 rfl) rfl
/-! the law's own entry -/
set_option maxRecDepth 100000
abbrev cL_law : ByteArray := code
theorem dL_law_0 : decode cL_law 0 = .ok (.new 7, 3) := by decide +kernel
theorem dL_law_3 : decode cL_law 3 = .ok (.dup, 1) := by decide +kernel
theorem dL_law_4 : decode cL_law 4 = .ok (.invokespecial 9, 3) := by decide +kernel
theorem dL_law_7 : decode cL_law 7 = .ok (.astore_n 1, 1) := by decide +kernel
theorem dL_law_8 : decode cL_law 8 = .ok (.new 10, 3) := by decide +kernel
theorem dL_law_11 : decode cL_law 11 = .ok (.dup, 1) := by decide +kernel
theorem dL_law_12 : decode cL_law 12 = .ok (.invokespecial 12, 3) := by decide +kernel
theorem dL_law_15 : decode cL_law 15 = .ok (.astore_n 2, 1) := by decide +kernel
theorem dL_law_16 : decode cL_law 16 = .ok (.iconst 0, 1) := by decide +kernel
theorem dL_law_17 : decode cL_law 17 = .ok (.istore_n 3, 1) := by decide +kernel
theorem dL_law_18 : decode cL_law 18 = .ok (.iload_n 3, 1) := by decide +kernel
theorem dL_law_19 : decode cL_law 19 = .ok (.aload_n 0, 1) := by decide +kernel
theorem dL_law_20 : decode cL_law 20 = .ok (.arraylength, 1) := by decide +kernel
theorem dL_law_21 : decode cL_law 21 = .ok (.iconst 5, 1) := by decide +kernel
theorem dL_law_22 : decode cL_law 22 = .ok (.isub, 1) := by decide +kernel
theorem dL_law_23 : decode cL_law 23 = .ok (.if_icmp .gt 425, 3) := by decide +kernel
theorem dL_law_26 : decode cL_law 26 = .ok (.aload_n 0, 1) := by decide +kernel
theorem dL_law_27 : decode cL_law 27 = .ok (.iload_n 3, 1) := by decide +kernel
theorem dL_law_28 : decode cL_law 28 = .ok (.iaload, 1) := by decide +kernel
theorem dL_law_29 : decode cL_law 29 = .ok (.bipush 15, 2) := by decide +kernel
theorem dL_law_31 : decode cL_law 31 = .ok (.iand, 1) := by decide +kernel
theorem dL_law_32 : decode cL_law 32 = .ok (.tableswitch 410 0 11 #[64, 97, 120, 163, 186, 199, 222, 255, 268, 291, 324, 357], 64) := by decide +kernel
theorem dL_law_96 : decode cL_law 96 = .ok (.aload_n 1, 1) := by decide +kernel
theorem dL_law_97 : decode cL_law 97 = .ok (.aload_n 0, 1) := by decide +kernel
theorem dL_law_98 : decode cL_law 98 = .ok (.iload_n 3, 1) := by decide +kernel
theorem dL_law_99 : decode cL_law 99 = .ok (.iconst 1, 1) := by decide +kernel
theorem dL_law_100 : decode cL_law 100 = .ok (.iadd, 1) := by decide +kernel
theorem dL_law_101 : decode cL_law 101 = .ok (.iaload, 1) := by decide +kernel
theorem dL_law_102 : decode cL_law 102 = .ok (.aload_n 0, 1) := by decide +kernel
theorem dL_law_103 : decode cL_law 103 = .ok (.iload_n 3, 1) := by decide +kernel
theorem dL_law_104 : decode cL_law 104 = .ok (.iconst 2, 1) := by decide +kernel
theorem dL_law_105 : decode cL_law 105 = .ok (.iadd, 1) := by decide +kernel
theorem dL_law_106 : decode cL_law 106 = .ok (.iaload, 1) := by decide +kernel
theorem dL_law_107 : decode cL_law 107 = .ok (.invokevirtual 13, 3) := by decide +kernel
theorem dL_law_110 : decode cL_law 110 = .ok (.aload_n 2, 1) := by decide +kernel
theorem dL_law_111 : decode cL_law 111 = .ok (.aload_n 0, 1) := by decide +kernel
theorem dL_law_112 : decode cL_law 112 = .ok (.iload_n 3, 1) := by decide +kernel
theorem dL_law_113 : decode cL_law 113 = .ok (.iconst 1, 1) := by decide +kernel
theorem dL_law_114 : decode cL_law 114 = .ok (.iadd, 1) := by decide +kernel
theorem dL_law_115 : decode cL_law 115 = .ok (.iaload, 1) := by decide +kernel
theorem dL_law_116 : decode cL_law 116 = .ok (.aload_n 0, 1) := by decide +kernel
theorem dL_law_117 : decode cL_law 117 = .ok (.iload_n 3, 1) := by decide +kernel
theorem dL_law_118 : decode cL_law 118 = .ok (.iconst 2, 1) := by decide +kernel
theorem dL_law_119 : decode cL_law 119 = .ok (.iadd, 1) := by decide +kernel
theorem dL_law_120 : decode cL_law 120 = .ok (.iaload, 1) := by decide +kernel
theorem dL_law_121 : decode cL_law 121 = .ok (.invokevirtual 17, 3) := by decide +kernel
theorem dL_law_124 : decode cL_law 124 = .ok (.if_icmp .eq 318, 3) := by decide +kernel
theorem dL_law_127 : decode cL_law 127 = .ok (.iconst 0, 1) := by decide +kernel
theorem dL_law_128 : decode cL_law 128 = .ok (.ireturn, 1) := by decide +kernel
theorem dL_law_129 : decode cL_law 129 = .ok (.aload_n 1, 1) := by decide +kernel
theorem dL_law_130 : decode cL_law 130 = .ok (.aload_n 0, 1) := by decide +kernel
theorem dL_law_131 : decode cL_law 131 = .ok (.iload_n 3, 1) := by decide +kernel
theorem dL_law_132 : decode cL_law 132 = .ok (.iconst 1, 1) := by decide +kernel
theorem dL_law_133 : decode cL_law 133 = .ok (.iadd, 1) := by decide +kernel
theorem dL_law_134 : decode cL_law 134 = .ok (.iaload, 1) := by decide +kernel
theorem dL_law_135 : decode cL_law 135 = .ok (.invokevirtual 18, 3) := by decide +kernel
theorem dL_law_138 : decode cL_law 138 = .ok (.aload_n 2, 1) := by decide +kernel
theorem dL_law_139 : decode cL_law 139 = .ok (.aload_n 0, 1) := by decide +kernel
theorem dL_law_140 : decode cL_law 140 = .ok (.iload_n 3, 1) := by decide +kernel
theorem dL_law_141 : decode cL_law 141 = .ok (.iconst 1, 1) := by decide +kernel
theorem dL_law_142 : decode cL_law 142 = .ok (.iadd, 1) := by decide +kernel
theorem dL_law_143 : decode cL_law 143 = .ok (.iaload, 1) := by decide +kernel
theorem dL_law_144 : decode cL_law 144 = .ok (.invokevirtual 22, 3) := by decide +kernel
theorem dL_law_147 : decode cL_law 147 = .ok (.if_icmp .eq 295, 3) := by decide +kernel
theorem dL_law_150 : decode cL_law 150 = .ok (.iconst 0, 1) := by decide +kernel
theorem dL_law_151 : decode cL_law 151 = .ok (.ireturn, 1) := by decide +kernel
theorem dL_law_152 : decode cL_law 152 = .ok (.aload_n 1, 1) := by decide +kernel
theorem dL_law_153 : decode cL_law 153 = .ok (.aload_n 0, 1) := by decide +kernel
theorem dL_law_154 : decode cL_law 154 = .ok (.iload_n 3, 1) := by decide +kernel
theorem dL_law_155 : decode cL_law 155 = .ok (.iconst 1, 1) := by decide +kernel
theorem dL_law_156 : decode cL_law 156 = .ok (.iadd, 1) := by decide +kernel
theorem dL_law_157 : decode cL_law 157 = .ok (.iaload, 1) := by decide +kernel
theorem dL_law_158 : decode cL_law 158 = .ok (.aload_n 0, 1) := by decide +kernel
theorem dL_law_159 : decode cL_law 159 = .ok (.iload_n 3, 1) := by decide +kernel
theorem dL_law_160 : decode cL_law 160 = .ok (.iconst 2, 1) := by decide +kernel
theorem dL_law_161 : decode cL_law 161 = .ok (.iadd, 1) := by decide +kernel
theorem dL_law_162 : decode cL_law 162 = .ok (.iaload, 1) := by decide +kernel
theorem dL_law_163 : decode cL_law 163 = .ok (.aload_n 0, 1) := by decide +kernel
theorem dL_law_164 : decode cL_law 164 = .ok (.iload_n 3, 1) := by decide +kernel
theorem dL_law_165 : decode cL_law 165 = .ok (.iconst 3, 1) := by decide +kernel
theorem dL_law_166 : decode cL_law 166 = .ok (.iadd, 1) := by decide +kernel
theorem dL_law_167 : decode cL_law 167 = .ok (.iaload, 1) := by decide +kernel
theorem dL_law_168 : decode cL_law 168 = .ok (.invokevirtual 23, 3) := by decide +kernel
theorem dL_law_171 : decode cL_law 171 = .ok (.aload_n 2, 1) := by decide +kernel
theorem dL_law_172 : decode cL_law 172 = .ok (.aload_n 0, 1) := by decide +kernel
theorem dL_law_173 : decode cL_law 173 = .ok (.iload_n 3, 1) := by decide +kernel
theorem dL_law_174 : decode cL_law 174 = .ok (.iconst 1, 1) := by decide +kernel
theorem dL_law_175 : decode cL_law 175 = .ok (.iadd, 1) := by decide +kernel
theorem dL_law_176 : decode cL_law 176 = .ok (.iaload, 1) := by decide +kernel
theorem dL_law_177 : decode cL_law 177 = .ok (.aload_n 0, 1) := by decide +kernel
theorem dL_law_178 : decode cL_law 178 = .ok (.iload_n 3, 1) := by decide +kernel
theorem dL_law_179 : decode cL_law 179 = .ok (.iconst 2, 1) := by decide +kernel
theorem dL_law_180 : decode cL_law 180 = .ok (.iadd, 1) := by decide +kernel
theorem dL_law_181 : decode cL_law 181 = .ok (.iaload, 1) := by decide +kernel
theorem dL_law_182 : decode cL_law 182 = .ok (.aload_n 0, 1) := by decide +kernel
theorem dL_law_183 : decode cL_law 183 = .ok (.iload_n 3, 1) := by decide +kernel
theorem dL_law_184 : decode cL_law 184 = .ok (.iconst 3, 1) := by decide +kernel
theorem dL_law_185 : decode cL_law 185 = .ok (.iadd, 1) := by decide +kernel
theorem dL_law_186 : decode cL_law 186 = .ok (.iaload, 1) := by decide +kernel
theorem dL_law_187 : decode cL_law 187 = .ok (.invokevirtual 27, 3) := by decide +kernel
theorem dL_law_190 : decode cL_law 190 = .ok (.if_icmp .eq 252, 3) := by decide +kernel
theorem dL_law_193 : decode cL_law 193 = .ok (.iconst 0, 1) := by decide +kernel
theorem dL_law_194 : decode cL_law 194 = .ok (.ireturn, 1) := by decide +kernel
theorem dL_law_195 : decode cL_law 195 = .ok (.aload_n 1, 1) := by decide +kernel
theorem dL_law_196 : decode cL_law 196 = .ok (.aload_n 0, 1) := by decide +kernel
theorem dL_law_197 : decode cL_law 197 = .ok (.iload_n 3, 1) := by decide +kernel
theorem dL_law_198 : decode cL_law 198 = .ok (.iconst 1, 1) := by decide +kernel
theorem dL_law_199 : decode cL_law 199 = .ok (.iadd, 1) := by decide +kernel
theorem dL_law_200 : decode cL_law 200 = .ok (.iaload, 1) := by decide +kernel
theorem dL_law_201 : decode cL_law 201 = .ok (.invokevirtual 28, 3) := by decide +kernel
theorem dL_law_204 : decode cL_law 204 = .ok (.aload_n 2, 1) := by decide +kernel
theorem dL_law_205 : decode cL_law 205 = .ok (.aload_n 0, 1) := by decide +kernel
theorem dL_law_206 : decode cL_law 206 = .ok (.iload_n 3, 1) := by decide +kernel
theorem dL_law_207 : decode cL_law 207 = .ok (.iconst 1, 1) := by decide +kernel
theorem dL_law_208 : decode cL_law 208 = .ok (.iadd, 1) := by decide +kernel
theorem dL_law_209 : decode cL_law 209 = .ok (.iaload, 1) := by decide +kernel
theorem dL_law_210 : decode cL_law 210 = .ok (.invokevirtual 32, 3) := by decide +kernel
theorem dL_law_213 : decode cL_law 213 = .ok (.if_icmp .eq 229, 3) := by decide +kernel
theorem dL_law_216 : decode cL_law 216 = .ok (.iconst 0, 1) := by decide +kernel
theorem dL_law_217 : decode cL_law 217 = .ok (.ireturn, 1) := by decide +kernel
theorem dL_law_218 : decode cL_law 218 = .ok (.aload_n 1, 1) := by decide +kernel
theorem dL_law_219 : decode cL_law 219 = .ok (.invokevirtual 33, 3) := by decide +kernel
theorem dL_law_222 : decode cL_law 222 = .ok (.aload_n 2, 1) := by decide +kernel
theorem dL_law_223 : decode cL_law 223 = .ok (.invokevirtual 37, 3) := by decide +kernel
theorem dL_law_226 : decode cL_law 226 = .ok (.if_icmp .eq 216, 3) := by decide +kernel
theorem dL_law_229 : decode cL_law 229 = .ok (.iconst 0, 1) := by decide +kernel
theorem dL_law_230 : decode cL_law 230 = .ok (.ireturn, 1) := by decide +kernel
theorem dL_law_231 : decode cL_law 231 = .ok (.aload_n 1, 1) := by decide +kernel
theorem dL_law_232 : decode cL_law 232 = .ok (.aload_n 0, 1) := by decide +kernel
theorem dL_law_233 : decode cL_law 233 = .ok (.iload_n 3, 1) := by decide +kernel
theorem dL_law_234 : decode cL_law 234 = .ok (.iconst 1, 1) := by decide +kernel
theorem dL_law_235 : decode cL_law 235 = .ok (.iadd, 1) := by decide +kernel
theorem dL_law_236 : decode cL_law 236 = .ok (.iaload, 1) := by decide +kernel
theorem dL_law_237 : decode cL_law 237 = .ok (.invokevirtual 38, 3) := by decide +kernel
theorem dL_law_240 : decode cL_law 240 = .ok (.aload_n 2, 1) := by decide +kernel
theorem dL_law_241 : decode cL_law 241 = .ok (.aload_n 0, 1) := by decide +kernel
theorem dL_law_242 : decode cL_law 242 = .ok (.iload_n 3, 1) := by decide +kernel
theorem dL_law_243 : decode cL_law 243 = .ok (.iconst 1, 1) := by decide +kernel
theorem dL_law_244 : decode cL_law 244 = .ok (.iadd, 1) := by decide +kernel
theorem dL_law_245 : decode cL_law 245 = .ok (.iaload, 1) := by decide +kernel
theorem dL_law_246 : decode cL_law 246 = .ok (.invokevirtual 41, 3) := by decide +kernel
theorem dL_law_249 : decode cL_law 249 = .ok (.if_icmp .eq 193, 3) := by decide +kernel
theorem dL_law_252 : decode cL_law 252 = .ok (.iconst 0, 1) := by decide +kernel
theorem dL_law_253 : decode cL_law 253 = .ok (.ireturn, 1) := by decide +kernel
theorem dL_law_254 : decode cL_law 254 = .ok (.aload_n 1, 1) := by decide +kernel
theorem dL_law_255 : decode cL_law 255 = .ok (.aload_n 0, 1) := by decide +kernel
theorem dL_law_256 : decode cL_law 256 = .ok (.iload_n 3, 1) := by decide +kernel
theorem dL_law_257 : decode cL_law 257 = .ok (.iconst 1, 1) := by decide +kernel
theorem dL_law_258 : decode cL_law 258 = .ok (.iadd, 1) := by decide +kernel
theorem dL_law_259 : decode cL_law 259 = .ok (.iaload, 1) := by decide +kernel
theorem dL_law_260 : decode cL_law 260 = .ok (.aload_n 0, 1) := by decide +kernel
theorem dL_law_261 : decode cL_law 261 = .ok (.iload_n 3, 1) := by decide +kernel
theorem dL_law_262 : decode cL_law 262 = .ok (.iconst 2, 1) := by decide +kernel
theorem dL_law_263 : decode cL_law 263 = .ok (.iadd, 1) := by decide +kernel
theorem dL_law_264 : decode cL_law 264 = .ok (.iaload, 1) := by decide +kernel
theorem dL_law_265 : decode cL_law 265 = .ok (.invokevirtual 42, 3) := by decide +kernel
theorem dL_law_268 : decode cL_law 268 = .ok (.aload_n 2, 1) := by decide +kernel
theorem dL_law_269 : decode cL_law 269 = .ok (.aload_n 0, 1) := by decide +kernel
theorem dL_law_270 : decode cL_law 270 = .ok (.iload_n 3, 1) := by decide +kernel
theorem dL_law_271 : decode cL_law 271 = .ok (.iconst 1, 1) := by decide +kernel
theorem dL_law_272 : decode cL_law 272 = .ok (.iadd, 1) := by decide +kernel
theorem dL_law_273 : decode cL_law 273 = .ok (.iaload, 1) := by decide +kernel
theorem dL_law_274 : decode cL_law 274 = .ok (.aload_n 0, 1) := by decide +kernel
theorem dL_law_275 : decode cL_law 275 = .ok (.iload_n 3, 1) := by decide +kernel
theorem dL_law_276 : decode cL_law 276 = .ok (.iconst 2, 1) := by decide +kernel
theorem dL_law_277 : decode cL_law 277 = .ok (.iadd, 1) := by decide +kernel
theorem dL_law_278 : decode cL_law 278 = .ok (.iaload, 1) := by decide +kernel
theorem dL_law_279 : decode cL_law 279 = .ok (.invokevirtual 45, 3) := by decide +kernel
theorem dL_law_282 : decode cL_law 282 = .ok (.if_icmp .eq 160, 3) := by decide +kernel
theorem dL_law_285 : decode cL_law 285 = .ok (.iconst 0, 1) := by decide +kernel
theorem dL_law_286 : decode cL_law 286 = .ok (.ireturn, 1) := by decide +kernel
theorem dL_law_287 : decode cL_law 287 = .ok (.aload_n 1, 1) := by decide +kernel
theorem dL_law_288 : decode cL_law 288 = .ok (.invokevirtual 46, 3) := by decide +kernel
theorem dL_law_291 : decode cL_law 291 = .ok (.aload_n 2, 1) := by decide +kernel
theorem dL_law_292 : decode cL_law 292 = .ok (.invokevirtual 49, 3) := by decide +kernel
theorem dL_law_295 : decode cL_law 295 = .ok (.if_icmp .eq 147, 3) := by decide +kernel
theorem dL_law_298 : decode cL_law 298 = .ok (.iconst 0, 1) := by decide +kernel
theorem dL_law_299 : decode cL_law 299 = .ok (.ireturn, 1) := by decide +kernel
theorem dL_law_300 : decode cL_law 300 = .ok (.aload_n 1, 1) := by decide +kernel
theorem dL_law_301 : decode cL_law 301 = .ok (.aload_n 0, 1) := by decide +kernel
theorem dL_law_302 : decode cL_law 302 = .ok (.iload_n 3, 1) := by decide +kernel
theorem dL_law_303 : decode cL_law 303 = .ok (.iconst 1, 1) := by decide +kernel
theorem dL_law_304 : decode cL_law 304 = .ok (.iadd, 1) := by decide +kernel
theorem dL_law_305 : decode cL_law 305 = .ok (.iaload, 1) := by decide +kernel
theorem dL_law_306 : decode cL_law 306 = .ok (.invokevirtual 50, 3) := by decide +kernel
theorem dL_law_309 : decode cL_law 309 = .ok (.aload_n 2, 1) := by decide +kernel
theorem dL_law_310 : decode cL_law 310 = .ok (.aload_n 0, 1) := by decide +kernel
theorem dL_law_311 : decode cL_law 311 = .ok (.iload_n 3, 1) := by decide +kernel
theorem dL_law_312 : decode cL_law 312 = .ok (.iconst 1, 1) := by decide +kernel
theorem dL_law_313 : decode cL_law 313 = .ok (.iadd, 1) := by decide +kernel
theorem dL_law_314 : decode cL_law 314 = .ok (.iaload, 1) := by decide +kernel
theorem dL_law_315 : decode cL_law 315 = .ok (.invokevirtual 53, 3) := by decide +kernel
theorem dL_law_318 : decode cL_law 318 = .ok (.if_icmp .eq 124, 3) := by decide +kernel
theorem dL_law_321 : decode cL_law 321 = .ok (.iconst 0, 1) := by decide +kernel
theorem dL_law_322 : decode cL_law 322 = .ok (.ireturn, 1) := by decide +kernel
theorem dL_law_323 : decode cL_law 323 = .ok (.aload_n 1, 1) := by decide +kernel
theorem dL_law_324 : decode cL_law 324 = .ok (.aload_n 0, 1) := by decide +kernel
theorem dL_law_325 : decode cL_law 325 = .ok (.iload_n 3, 1) := by decide +kernel
theorem dL_law_326 : decode cL_law 326 = .ok (.iconst 1, 1) := by decide +kernel
theorem dL_law_327 : decode cL_law 327 = .ok (.iadd, 1) := by decide +kernel
theorem dL_law_328 : decode cL_law 328 = .ok (.iaload, 1) := by decide +kernel
theorem dL_law_329 : decode cL_law 329 = .ok (.aload_n 0, 1) := by decide +kernel
theorem dL_law_330 : decode cL_law 330 = .ok (.iload_n 3, 1) := by decide +kernel
theorem dL_law_331 : decode cL_law 331 = .ok (.iconst 2, 1) := by decide +kernel
theorem dL_law_332 : decode cL_law 332 = .ok (.iadd, 1) := by decide +kernel
theorem dL_law_333 : decode cL_law 333 = .ok (.iaload, 1) := by decide +kernel
theorem dL_law_334 : decode cL_law 334 = .ok (.invokevirtual 54, 3) := by decide +kernel
theorem dL_law_337 : decode cL_law 337 = .ok (.aload_n 2, 1) := by decide +kernel
theorem dL_law_338 : decode cL_law 338 = .ok (.aload_n 0, 1) := by decide +kernel
theorem dL_law_339 : decode cL_law 339 = .ok (.iload_n 3, 1) := by decide +kernel
theorem dL_law_340 : decode cL_law 340 = .ok (.iconst 1, 1) := by decide +kernel
theorem dL_law_341 : decode cL_law 341 = .ok (.iadd, 1) := by decide +kernel
theorem dL_law_342 : decode cL_law 342 = .ok (.iaload, 1) := by decide +kernel
theorem dL_law_343 : decode cL_law 343 = .ok (.aload_n 0, 1) := by decide +kernel
theorem dL_law_344 : decode cL_law 344 = .ok (.iload_n 3, 1) := by decide +kernel
theorem dL_law_345 : decode cL_law 345 = .ok (.iconst 2, 1) := by decide +kernel
theorem dL_law_346 : decode cL_law 346 = .ok (.iadd, 1) := by decide +kernel
theorem dL_law_347 : decode cL_law 347 = .ok (.iaload, 1) := by decide +kernel
theorem dL_law_348 : decode cL_law 348 = .ok (.invokevirtual 57, 3) := by decide +kernel
theorem dL_law_351 : decode cL_law 351 = .ok (.if_icmp .eq 91, 3) := by decide +kernel
theorem dL_law_354 : decode cL_law 354 = .ok (.iconst 0, 1) := by decide +kernel
theorem dL_law_355 : decode cL_law 355 = .ok (.ireturn, 1) := by decide +kernel
theorem dL_law_356 : decode cL_law 356 = .ok (.aload_n 1, 1) := by decide +kernel
theorem dL_law_357 : decode cL_law 357 = .ok (.aload_n 0, 1) := by decide +kernel
theorem dL_law_358 : decode cL_law 358 = .ok (.iload_n 3, 1) := by decide +kernel
theorem dL_law_359 : decode cL_law 359 = .ok (.iconst 1, 1) := by decide +kernel
theorem dL_law_360 : decode cL_law 360 = .ok (.iadd, 1) := by decide +kernel
theorem dL_law_361 : decode cL_law 361 = .ok (.iaload, 1) := by decide +kernel
theorem dL_law_362 : decode cL_law 362 = .ok (.aload_n 0, 1) := by decide +kernel
theorem dL_law_363 : decode cL_law 363 = .ok (.iload_n 3, 1) := by decide +kernel
theorem dL_law_364 : decode cL_law 364 = .ok (.iconst 2, 1) := by decide +kernel
theorem dL_law_365 : decode cL_law 365 = .ok (.iadd, 1) := by decide +kernel
theorem dL_law_366 : decode cL_law 366 = .ok (.iaload, 1) := by decide +kernel
theorem dL_law_367 : decode cL_law 367 = .ok (.invokevirtual 58, 3) := by decide +kernel
theorem dL_law_370 : decode cL_law 370 = .ok (.aload_n 2, 1) := by decide +kernel
theorem dL_law_371 : decode cL_law 371 = .ok (.aload_n 0, 1) := by decide +kernel
theorem dL_law_372 : decode cL_law 372 = .ok (.iload_n 3, 1) := by decide +kernel
theorem dL_law_373 : decode cL_law 373 = .ok (.iconst 1, 1) := by decide +kernel
theorem dL_law_374 : decode cL_law 374 = .ok (.iadd, 1) := by decide +kernel
theorem dL_law_375 : decode cL_law 375 = .ok (.iaload, 1) := by decide +kernel
theorem dL_law_376 : decode cL_law 376 = .ok (.aload_n 0, 1) := by decide +kernel
theorem dL_law_377 : decode cL_law 377 = .ok (.iload_n 3, 1) := by decide +kernel
theorem dL_law_378 : decode cL_law 378 = .ok (.iconst 2, 1) := by decide +kernel
theorem dL_law_379 : decode cL_law 379 = .ok (.iadd, 1) := by decide +kernel
theorem dL_law_380 : decode cL_law 380 = .ok (.iaload, 1) := by decide +kernel
theorem dL_law_381 : decode cL_law 381 = .ok (.invokevirtual 61, 3) := by decide +kernel
theorem dL_law_384 : decode cL_law 384 = .ok (.if_icmp .eq 58, 3) := by decide +kernel
theorem dL_law_387 : decode cL_law 387 = .ok (.iconst 0, 1) := by decide +kernel
theorem dL_law_388 : decode cL_law 388 = .ok (.ireturn, 1) := by decide +kernel
theorem dL_law_389 : decode cL_law 389 = .ok (.aload_n 1, 1) := by decide +kernel
theorem dL_law_390 : decode cL_law 390 = .ok (.aload_n 0, 1) := by decide +kernel
theorem dL_law_391 : decode cL_law 391 = .ok (.iload_n 3, 1) := by decide +kernel
theorem dL_law_392 : decode cL_law 392 = .ok (.iconst 1, 1) := by decide +kernel
theorem dL_law_393 : decode cL_law 393 = .ok (.iadd, 1) := by decide +kernel
theorem dL_law_394 : decode cL_law 394 = .ok (.iaload, 1) := by decide +kernel
theorem dL_law_395 : decode cL_law 395 = .ok (.aload_n 0, 1) := by decide +kernel
theorem dL_law_396 : decode cL_law 396 = .ok (.iload_n 3, 1) := by decide +kernel
theorem dL_law_397 : decode cL_law 397 = .ok (.iconst 2, 1) := by decide +kernel
theorem dL_law_398 : decode cL_law 398 = .ok (.iadd, 1) := by decide +kernel
theorem dL_law_399 : decode cL_law 399 = .ok (.iaload, 1) := by decide +kernel
theorem dL_law_400 : decode cL_law 400 = .ok (.aload_n 0, 1) := by decide +kernel
theorem dL_law_401 : decode cL_law 401 = .ok (.iload_n 3, 1) := by decide +kernel
theorem dL_law_402 : decode cL_law 402 = .ok (.iconst 3, 1) := by decide +kernel
theorem dL_law_403 : decode cL_law 403 = .ok (.iadd, 1) := by decide +kernel
theorem dL_law_404 : decode cL_law 404 = .ok (.iaload, 1) := by decide +kernel
theorem dL_law_405 : decode cL_law 405 = .ok (.aload_n 0, 1) := by decide +kernel
theorem dL_law_406 : decode cL_law 406 = .ok (.iload_n 3, 1) := by decide +kernel
theorem dL_law_407 : decode cL_law 407 = .ok (.iconst 4, 1) := by decide +kernel
theorem dL_law_408 : decode cL_law 408 = .ok (.iadd, 1) := by decide +kernel
theorem dL_law_409 : decode cL_law 409 = .ok (.iaload, 1) := by decide +kernel
theorem dL_law_410 : decode cL_law 410 = .ok (.invokevirtual 62, 3) := by decide +kernel
theorem dL_law_413 : decode cL_law 413 = .ok (.aload_n 2, 1) := by decide +kernel
theorem dL_law_414 : decode cL_law 414 = .ok (.aload_n 0, 1) := by decide +kernel
theorem dL_law_415 : decode cL_law 415 = .ok (.iload_n 3, 1) := by decide +kernel
theorem dL_law_416 : decode cL_law 416 = .ok (.iconst 1, 1) := by decide +kernel
theorem dL_law_417 : decode cL_law 417 = .ok (.iadd, 1) := by decide +kernel
theorem dL_law_418 : decode cL_law 418 = .ok (.iaload, 1) := by decide +kernel
theorem dL_law_419 : decode cL_law 419 = .ok (.aload_n 0, 1) := by decide +kernel
theorem dL_law_420 : decode cL_law 420 = .ok (.iload_n 3, 1) := by decide +kernel
theorem dL_law_421 : decode cL_law 421 = .ok (.iconst 2, 1) := by decide +kernel
theorem dL_law_422 : decode cL_law 422 = .ok (.iadd, 1) := by decide +kernel
theorem dL_law_423 : decode cL_law 423 = .ok (.iaload, 1) := by decide +kernel
theorem dL_law_424 : decode cL_law 424 = .ok (.aload_n 0, 1) := by decide +kernel
theorem dL_law_425 : decode cL_law 425 = .ok (.iload_n 3, 1) := by decide +kernel
theorem dL_law_426 : decode cL_law 426 = .ok (.iconst 3, 1) := by decide +kernel
theorem dL_law_427 : decode cL_law 427 = .ok (.iadd, 1) := by decide +kernel
theorem dL_law_428 : decode cL_law 428 = .ok (.iaload, 1) := by decide +kernel
theorem dL_law_429 : decode cL_law 429 = .ok (.aload_n 0, 1) := by decide +kernel
theorem dL_law_430 : decode cL_law 430 = .ok (.iload_n 3, 1) := by decide +kernel
theorem dL_law_431 : decode cL_law 431 = .ok (.iconst 4, 1) := by decide +kernel
theorem dL_law_432 : decode cL_law 432 = .ok (.iadd, 1) := by decide +kernel
theorem dL_law_433 : decode cL_law 433 = .ok (.iaload, 1) := by decide +kernel
theorem dL_law_434 : decode cL_law 434 = .ok (.invokevirtual 66, 3) := by decide +kernel
theorem dL_law_437 : decode cL_law 437 = .ok (.if_icmp .eq 5, 3) := by decide +kernel
theorem dL_law_440 : decode cL_law 440 = .ok (.iconst 0, 1) := by decide +kernel
theorem dL_law_441 : decode cL_law 441 = .ok (.ireturn, 1) := by decide +kernel
theorem dL_law_442 : decode cL_law 442 = .ok (.iinc 3 5, 3) := by decide +kernel
theorem dL_law_445 : decode cL_law 445 = .ok (.goto (-427), 3) := by decide +kernel
theorem dL_law_448 : decode cL_law 448 = .ok (.iconst 1, 1) := by decide +kernel
theorem dL_law_449 : decode cL_law 449 = .ok (.ireturn, 1) := by decide +kernel
end
section
/-! THE LAYER: one judgement zG whose world is a function of an abstract state; one row an instruction. Pasted out of kit/laws: fa_and, fa_or, fa_mask, fa_byte_small, s_l, wb_ rows (long bits) -/
set_option maxRecDepth 100000
theorem fa_and (a b : Nat) : nI a &&& nI b = nI (a &&& b) := by
  apply Int32.toBitVec_inj.1
  show BitVec.ofNat 32 a &&& BitVec.ofNat 32 b = BitVec.ofNat 32 (a &&& b)
  apply BitVec.eq_of_getLsbD_eq
  intro i hi
  simp [hi]
theorem fa_or (a b : Nat) : nI a ||| nI b = nI (a ||| b) := by
  apply Int32.toBitVec_inj.1
  show BitVec.ofNat 32 a ||| BitVec.ofNat 32 b = BitVec.ofNat 32 (a ||| b)
  apply BitVec.eq_of_getLsbD_eq
  intro i hi
  simp [hi]
theorem fa_mask (n k : Nat) : nI n &&& nI (2 ^ k - 1) = nI (n % 2 ^ k) := by rw [fa_and, Nat.and_two_pow_sub_one_eq_mod]
theorem fa_byte_small {n : Nat} (h : n < 128) : (nI n).toInt8.toInt32 = nI n := by
  have : ∀ j : Fin 128, (nI j.val).toInt8.toInt32 = nI j.val := by decide +kernel
  exact this ⟨n, h⟩
theorem s_l : ∀ n, n < 32 → ((nI n &&& 31).toBitVec.smod 32).toNat = n := by decide +kernel
theorem wb_tb (n : Nat) : (lN n).toBitVec = BitVec.ofNat 64 n := rfl
theorem wb_inj {a b : Int64} (h : a.toBitVec = b.toBitVec) : a = b := Int64.toBitVec_inj.mp h
theorem wb_tn {n : Nat} (h : n < 2 ^ 64) : (lN n).toBitVec.toNat = n := by rw [wb_tb, BitVec.toNat_ofNat, Nat.mod_eq_of_lt h]
theorem wb_c : ∀ k, k < 64 → ((nI k).toInt64 &&& 63) = lN k := by decide +kernel
theorem wb_cu : ∀ k, k < 64 → ((nI k).toInt64.toUInt64 &&& Int64.toUInt64 63) = UInt64.ofNat k := by decide +kernel
theorem wb_sm : ∀ k, k < 64 → (BitVec.ofNat 64 k).smod 64 = BitVec.ofNat 64 k := by decide +kernel
theorem wb_lt2 {a b : Nat} (h : a < b) : 2 ^ a < 2 ^ b := Nat.pow_lt_pow_right (by decide) h
theorem wb_shr {n k : Nat} (hn : n < 2 ^ 64) (hk : k < 64) : ((lN n).toUInt64 >>> ((nI k).toInt64.toUInt64 &&& Int64.toUInt64 63)).toInt64 = lN (n / 2 ^ k) := by
  rw [wb_cu k hk]
  apply wb_inj
  apply BitVec.eq_of_toNat_eq
  show ((lN n).toUInt64 >>> UInt64.ofNat k).toNat = (BitVec.ofNat 64 _).toNat
  have h1 : (UInt64.ofNat k).toNat = k := by
    show (BitVec.ofNat 64 k).toNat = k
    rw [BitVec.toNat_ofNat, Nat.mod_eq_of_lt (by omega)]
  have h2 : (lN n).toUInt64.toNat = n := wb_tn hn
  rw [UInt64.toNat_shiftRight, h1, h2, Nat.mod_eq_of_lt hk, Nat.shiftRight_eq_div_pow, BitVec.toNat_ofNat, Nat.mod_eq_of_lt (Nat.lt_of_le_of_lt (Nat.div_le_self _ _) hn)]
theorem wb_shl (n : Nat) {k : Nat} (hk : k < 64) : lN n <<< ((nI k).toInt64 &&& 63) = lN (n * 2 ^ k) := by
  rw [wb_c k hk]
  apply wb_inj
  rw [Int64.toBitVec_shiftLeft, wb_tb, wb_tb, wb_tb, wb_sm k hk]
  apply BitVec.eq_of_toNat_eq
  rw [BitVec.shiftLeft_eq', BitVec.toNat_shiftLeft, BitVec.toNat_ofNat, BitVec.toNat_ofNat, BitVec.toNat_ofNat, Nat.mod_eq_of_lt (show k < 2 ^ 64 by omega), Nat.shiftLeft_eq, Nat.mul_mod, Nat.mod_mod, ← Nat.mul_mod]
theorem wb_and {a b : Nat} (ha : a < 2 ^ 64) (hb : b < 2 ^ 64) : lN a &&& lN b = lN (a &&& b) := by
  apply wb_inj
  rw [Int64.toBitVec_and, wb_tb, wb_tb, wb_tb]
  apply BitVec.eq_of_toNat_eq
  rw [BitVec.toNat_and, BitVec.toNat_ofNat, BitVec.toNat_ofNat, BitVec.toNat_ofNat, Nat.mod_eq_of_lt ha, Nat.mod_eq_of_lt hb, Nat.mod_eq_of_lt (Nat.and_lt_two_pow _ hb)]
theorem wb_or {a b : Nat} (ha : a < 2 ^ 64) (hb : b < 2 ^ 64) : lN a ||| lN b = lN (a ||| b) := by
  apply wb_inj
  rw [Int64.toBitVec_or, wb_tb, wb_tb, wb_tb]
  apply BitVec.eq_of_toNat_eq
  rw [BitVec.toNat_or, BitVec.toNat_ofNat, BitVec.toNat_ofNat, BitVec.toNat_ofNat, Nat.mod_eq_of_lt ha, Nat.mod_eq_of_lt hb, Nat.mod_eq_of_lt (Nat.or_lt_two_pow ha hb)]
theorem wb_mask {n k : Nat} (hn : n < 2 ^ 64) (hk : k < 64) : lN n &&& lN (2 ^ k - 1) = lN (n % 2 ^ k) := by
  rw [wb_and hn (by have := wb_lt2 hk; omega), Nat.and_two_pow_sub_one_eq_mod]
/-! plain: states, updates -/
abbrev ES : Type := Nat → Nat → Nat
def updN (f : Nat → Nat) (k v : Nat) : Nat → Nat := fun j => if j = k then v else f j
def up2 (S : ES) (i k v : Nat) : ES := fun i' => if i' = i then updN (S i) k v else S i'
theorem updN_s {f : Nat → Nat} {k v : Nat} : updN f k v k = v := if_pos rfl
theorem updN_n {f : Nat → Nat} {k v j : Nat} (h : j ≠ k) : updN f k v j = f j := if_neg h
theorem up2_n {S : ES} {i k v i' : Nat} (h : i' ≠ i) : up2 S i k v i' = S i' := if_neg h
theorem up2_s {S : ES} {i k v : Nat} : up2 S i k v i = updN (S i) k v := if_pos rfl
theorem upd_nI (f : Nat → Nat) (k v : Nat) : upd (fun j => nI (f j)) k (nI v) = fun j => nI (updN f k v j) := by
  funext j
  unfold upd updN
  by_cases h : j = k
  · rw [if_pos h, if_pos h]
  · rw [if_neg h, if_neg h]
theorem upd_lN (f : Nat → Nat) (k v : Nat) : vp_updL (fun j => lN (f j)) k (lN v) = fun j => lN (updN f k v j) := by
  funext j
  unfold vp_updL updN
  by_cases h : j = k
  · rw [if_pos h, if_pos h]
  · rw [if_neg h, if_neg h]
theorem nar_b {v : Nat} (h : v < 128) : vp_nar .byte (nI v) = nI v := by rw [vp_nar_byte, fa_byte_small h]
theorem nar_z : ∀ v, v < 2 → vp_nar .boolean (nI v) = nI v := by decide +kernel
theorem narZ : ∀ v, v < 2 → narrow .boolean (.int (nI v)) = .int (nI v) := by decide +kernel
theorem shl_nI {a k : Nat} (hk : k < 32) (h : a * 2 ^ k < 2 ^ 32) : nI a <<< (nI k &&& 31) = nI (a * 2 ^ k) := pk_shlN _ k (s_l k hk) h
theorem shr_nI {a k : Nat} (hk : k < 32) (h : a < 2 ^ 31) : nI a >>> (nI k &&& 31) = nI (a / 2 ^ k) := pk_shrN h _ k (s_l k hk)
theorem cmp_lN : ∀ v, v < 2 → lg_cmp (lN v) (lN 0) = nI v := by decide +kernel
theorem bit_div (n k : Nat) : n / 2 ^ k % 2 = (n.testBit k).toNat := by
  rw [Nat.testBit_eq_decide_div_mod_eq]
  rcases Nat.mod_two_eq_zero_or_one (n / 2 ^ k) with h | h <;> rw [h] <;> rfl
theorem toInt_nI {a : Nat} (h : a < 2 ^ 31) : (nI a).toInt = (a : Int) := nI_toInt h
/-! the classes and array classes -/
abbrev vwCl : List vw_C := [(RX0, TX0, 13), (RX1, TX1, 7)]
abbrev zK : Type := va_G × ClassId × ClassId × ClassId × ClassId
abbrev zt (K : zK) : List (ClassId × FieldType) := [(K.2.1, .byte), (K.2.2.1, .boolean), (K.2.2.2.1, .long), (K.2.2.2.2, .int)]
/-! the fixed context of a method's body -/
abbrev zX : Type := (Program × Launch × Env × Room) × (State × MethodId × Array Value × List Frame) × (Method × Code × Nat × Nat) × ((State → Prop) × (Nat → Prop) × zK)
abbrev zx_p (X : zX) : Program := X.1.1
abbrev zx_l (X : zX) : Launch := X.1.2.1
abbrev zx_e (X : zX) : Env := X.1.2.2.1
abbrev zx_R (X : zX) : Room := X.1.2.2.2
abbrev zx_s (X : zX) : State := X.2.1.1
abbrev zx_m (X : zX) : MethodId := X.2.1.2.1
abbrev zx_a (X : zX) : Array Value := X.2.1.2.2.1
abbrev zx_b (X : zX) : List Frame := X.2.1.2.2.2
abbrev zx_h (X : zX) : Method := X.2.2.1.1
abbrev zx_c (X : zX) : Code := X.2.2.1.2.1
abbrev zx_n (X : zX) : Nat := X.2.2.1.2.2.1
abbrev zx_o (X : zX) : Nat := X.2.2.1.2.2.2
abbrev zx_Q (X : zX) : State → Prop := X.2.2.2.1
abbrev zx_A (X : zX) : Nat → Prop := X.2.2.2.2.1
abbrev zx_K (X : zX) : zK := X.2.2.2.2.2
def zW (X : zX) (H : Heap) (locs : List Loc) (g : JFrame) : Prop := W (zx_p X) (zx_l X) (zx_e X) (zx_R X) (zx_s X) (zx_m X) (zx_a X) (zx_b X) (zx_h X) (zx_c X) H locs (zx_n X) (zx_o X) (zx_Q X) g
def zG {σ : Type} (X : zX) (w : σ → va_W) (nL : Nat) (S : σ) (lv : List (Nat × Value)) (pc : Nat) (st : List Value) : Prop := ∀ (H : Heap) (locs : List Loc) (ls : Array Slot), va_P (zx_K X).1 vwCl (w S) H → va_D (zx_A X) (w S) → va_S (zx_A X) (zx_s X).heap H locs → lv_has ls nL lv → zW X H locs (F0 (zx_m X) pc ls st)
def zC (X : zX) (cc : ByteArray) (nL : Nat) (own : String) (R : Room) : Prop := CallFix (zx_p X) (zx_m X) (zx_c X) cc nL (zx_s X) (zx_a X) lw_all own ∧ (∀ q : Nat, (zx_s X).heap.size ≤ q → zx_A X q) ∧ va_K (zx_K X).1 vwCl (zt (zx_K X)) (zx_s X) ∧ zx_R X = R ∧ (zx_h X).locks = false ∧ (zx_n X ≤ R.cells ∧ zx_o X ≤ R.slots)
/-! contracts over a world -/
abbrev zPre {σ : Type} (K : zK) (w : σ → va_W) (S : σ) (sz : Nat) : State → Prop := fun U => U.heap.size = sz ∧ va_P K.1 vwCl (w S) U.heap ∧ va_K K.1 vwCl (zt K) U ∧ va_D (fun _ => True) (w S)
abbrev zPo {σ : Type} (K : zK) (w : σ → va_W) (A : Nat → Prop) : σ → State → Prop := fun S t => va_P K.1 vwCl (w S) t.heap ∧ va_K K.1 vwCl (zt K) t ∧ va_D A (w S)
def zMi {σ : Type} (l : Launch) (y : MethodName) (bytes : ByteArray) (maxL : Nat) (ret : Option FieldType) (rm : Room) (K : zK) (w : σ → va_W) (S : σ) (as : List Value) (post : Int32 → σ → Prop) : Prop :=
  ∀ sz : Nat, Met l y (ws_ y bytes maxL ret) rm (va_Pc as (zPre K w S sz)) (va_Qi post (zPo K w (va_A (w S) sz)) (va_A (w S) sz)) 0 0 (va_A (w S) sz)
def zMv {σ : Type} (l : Launch) (y : MethodName) (bytes : ByteArray) (maxL : Nat) (ret : Option FieldType) (rm : Room) (K : zK) (w : σ → va_W) (S : σ) (as : List Value) (post : σ → Prop) : Prop :=
  ∀ sz : Nat, Met l y (ws_ y bytes maxL ret) rm (va_Pc as (zPre K w S sz)) (va_Qv post (zPo K w (va_A (w S) sz)) (va_A (w S) sz)) 0 0 (va_A (w S) sz)
def zRi {σ : Type} (X : zX) (w : σ → va_W) (ret : Option FieldType) (post : Int32 → σ → Prop) : Prop := (zx_h X).sig.returnType = ret ∧ zx_Q X = MQ (zx_b X) (va_Qi post (zPo (zx_K X) w (zx_A X)) (zx_A X)) (zx_a X) (zx_s X) (zx_n X) (zx_o X) (zx_A X)
def zRv {σ : Type} (X : zX) (w : σ → va_W) (ret : Option FieldType) (post : σ → Prop) : Prop := (zx_h X).sig.returnType = ret ∧ zx_Q X = MQ (zx_b X) (va_Qv post (zPo (zx_K X) w (zx_A X)) (zx_A X)) (zx_a X) (zx_s X) (zx_n X) (zx_o X) (zx_A X)
def rmH (h : Nat) : Room := { frames := h + 1, cells := 0, slots := 0, locals := 40 * h }
theorem z_entryI {σ : Type} {l : Launch} {y : MethodName} {cc : ByteArray} {maxL : Nat} {ret : Option FieldType} {rm : Room} {K : zK} {w : σ → va_W} {S : σ} {as : List Value} {post : Int32 → σ → Prop} {lv : List (Nat × Value)} (own : String) (hy : plainName y.cls = true) (ho : y.cls = own) (hlen : (lg_sl as).length ≤ maxL) (hlv : lv_args 0 as = lv)
    (body : ∀ X : zX, zx_K X = K → zx_l X = l → zC X cc maxL own rm → zRi X w ret post → zG X w maxL S lv 0 []) : zMi l y cc maxL ret rm K w S as post := by
  intro sz
  refine Met.ofW (cc := cc) (maxL := maxL) (ret := ret) hy rfl ?_
  intro p e s m args below meth c s₁ B hml hv
  obtain ⟨rfl, hsz, hP, hK, hD0⟩ := hv
  have hts := atoms_spec (ws := ws_ y cc maxL ret) B.pre
  have hts : ∀ w ∈ lw_all, w.before _ s = true := fun w h => hts w (List.mem_cons_of_mem _ h)
  have hown : s.vm.findClass own = some m.cls := by rw [← ho]; exact findClass_of_methodNamed B.named
  subst hsz
  have hD := hD0.self (sz := s.heap.size)
  have hl := lv_entry as (n := maxL) hlen
  rw [hlv] at hl
  rw [lg_entry_eq]
  exact body ((p, l, e, rm), (s, m, as.toArray, below), (meth, c, 0, 0), (MQ below (va_Qi post (zPo K w (va_A (w S) s.heap.size)) (va_A (w S) s.heap.size)) as.toArray s 0 0 (va_A (w S) s.heap.size), va_A (w S) s.heap.size, K)) rfl rfl ⟨⟨B.exec, B.bytes, hml, hown, hts⟩, fun q h => Or.inr h, hK, rfl, B.notSynchronized, ⟨Nat.zero_le _, Nat.zero_le _⟩⟩ ⟨B.returns, rfl⟩ s.heap [] _ hP hD va_S.rf hl
theorem z_entryV {σ : Type} {l : Launch} {y : MethodName} {cc : ByteArray} {maxL : Nat} {ret : Option FieldType} {rm : Room} {K : zK} {w : σ → va_W} {S : σ} {as : List Value} {post : σ → Prop} {lv : List (Nat × Value)} (own : String) (hy : plainName y.cls = true) (ho : y.cls = own) (hlen : (lg_sl as).length ≤ maxL) (hlv : lv_args 0 as = lv)
    (body : ∀ X : zX, zx_K X = K → zx_l X = l → zC X cc maxL own rm → zRv X w ret post → zG X w maxL S lv 0 []) : zMv l y cc maxL ret rm K w S as post := by
  intro sz
  refine Met.ofW (cc := cc) (maxL := maxL) (ret := ret) hy rfl ?_
  intro p e s m args below meth c s₁ B hml hv
  obtain ⟨rfl, hsz, hP, hK, hD0⟩ := hv
  have hts := atoms_spec (ws := ws_ y cc maxL ret) B.pre
  have hts : ∀ w ∈ lw_all, w.before _ s = true := fun w h => hts w (List.mem_cons_of_mem _ h)
  have hown : s.vm.findClass own = some m.cls := by rw [← ho]; exact findClass_of_methodNamed B.named
  subst hsz
  have hD := hD0.self (sz := s.heap.size)
  have hl := lv_entry as (n := maxL) hlen
  rw [hlv] at hl
  rw [lg_entry_eq]
  exact body ((p, l, e, rm), (s, m, as.toArray, below), (meth, c, 0, 0), (MQ below (va_Qv post (zPo K w (va_A (w S) s.heap.size)) (va_A (w S) s.heap.size)) as.toArray s 0 0 (va_A (w S) s.heap.size), va_A (w S) s.heap.size, K)) rfl rfl ⟨⟨B.exec, B.bytes, hml, hown, hts⟩, fun q h => Or.inr h, hK, rfl, B.notSynchronized, ⟨Nat.zero_le _, Nat.zero_le _⟩⟩ ⟨B.returns, rfl⟩ s.heap [] _ hP hD va_S.rf hl
/-! locals: a store in place -/
def lset (lv : List (Nat × Value)) (i : Nat) (v : Value) : List (Nat × Value) :=
  if (lv.filter (fun q => (q.1 == i) || !(q.1 + 1 == i && q.2.category == 2))).any (fun q => q.1 == i) then (lv.filter (fun q => (q.1 == i) || !(q.1 + 1 == i && q.2.category == 2))).map (fun q => if q.1 == i then (i, v) else q) else (lv.filter (fun q => (q.1 == i) || !(q.1 + 1 == i && q.2.category == 2))) ++ [(i, v)]
theorem lset_in {lv : List (Nat × Value)} {i : Nat} {v : Value} {q : Nat × Value} (h : q ∈ lset lv i v) : q ∈ (i, v) :: lv.filter (fun q => !(q.1 == i) && !(q.1 + 1 == i && q.2.category == 2)) := by
  unfold lset at h
  split at h
  · obtain ⟨r, hr, e⟩ := List.mem_map.mp h
    by_cases hi : (r.1 == i) = true
    · rw [if_pos hi] at e
      rw [← e]
      exact List.mem_cons_self
    · rw [if_neg hi] at e
      subst e
      obtain ⟨h1, h2⟩ := List.mem_filter.mp hr
      refine List.mem_cons_of_mem _ (List.mem_filter.mpr ⟨h1, ?_⟩)
      simp only [Bool.not_eq_true] at hi
      simp only [hi, Bool.false_or] at h2
      simp only [hi, Bool.not_false, Bool.true_and]
      exact h2
  · rename_i hany
    rcases List.mem_append.mp h with h1 | h1
    · obtain ⟨h2, h3⟩ := List.mem_filter.mp h1
      have hi : ¬ (q.1 == i) = true := fun hq => hany (List.any_eq_true.mpr ⟨q, h1, hq⟩)
      refine List.mem_cons_of_mem _ (List.mem_filter.mpr ⟨h2, ?_⟩)
      simp only [Bool.not_eq_true] at hi
      simp only [hi, Bool.false_or] at h3
      simp only [hi, Bool.not_false, Bool.true_and]
      exact h3
    · rw [List.mem_singleton.mp h1]
      exact List.mem_cons_self
theorem lset_ok {ls : Array Slot} {nL : Nat} {lv : List (Nat × Value)} {i : Nat} {v : Value} (h : lv_has ls nL ((i, v) :: lv.filter (fun q => !(q.1 == i) && !(q.1 + 1 == i && q.2.category == 2)))) : lv_has ls nL (lset lv i v) := ⟨h.1, h.2.1, fun q hq => h.2.2 q (lset_in hq)⟩
end
section
/-! the layer's rows: one an instruction, over zG -/
set_option maxRecDepth 100000
section ROWS
variable {σ : Type} {X : zX} {w : σ → va_W} {nL : Nat} {own : String} {R : Room} {cc : ByteArray} {S : σ} {lv : List (Nat × Value)} {pc : Nat} {st : List Value}
theorem z_row {pc' : Nat} {st st' : List Value} (h : ∀ (H : Heap) (locs : List Loc) (ls : Array Slot), lv_has ls nL lv → zW X H locs (F0 (zx_m X) pc' ls st') → zW X H locs (F0 (zx_m X) pc ls st)) (k : zG X w nL S lv pc' st') : zG X w nL S lv pc st := fun H locs ls hP hD hS hl => h H locs ls hl (k H locs ls hP hD hS hl)
theorem z_eq {st st' : List Value} (h : st = st') (k : zG X w nL S lv pc st') : zG X w nL S lv pc st := h ▸ k
theorem z_int {x y : Int32} (h : x = y) (k : zG X w nL S lv pc (.int y :: st)) : zG X w nL S lv pc (.int x :: st) := h ▸ k
theorem z_nat {a b : Nat} (h : a = b) (k : zG X w nL S lv pc (.int (nI b) :: st)) : zG X w nL S lv pc (.int (nI a) :: st) := h ▸ k
theorem z_natL {a b : Nat} (h : a = b) (k : zG X w nL S lv pc (.long (lN b) :: st)) : zG X w nL S lv pc (.long (lN a) :: st) := h ▸ k
theorem z_S {S' : σ} (h : S = S') (k : zG X w nL S' lv pc st) : zG X w nL S lv pc st := h ▸ k
theorem z_sub {lv' : List (Nat × Value)} (ks : List Nat) (h : lv_pick lv ks = lv') (k : zG X w nL S lv' pc st) : zG X w nL S lv pc st := fun H locs ls hP hD hS hl => k H locs ls hP hD hS (lv_sub hl ks h)
theorem z_iconst (hc : zC X cc nL own R) {n : Int} (v : Int32) (hd : decode cc pc = .ok (.iconst n, 1)) (hv : Int32.ofInt n = v) (k : zG X w nL S lv (pc + 1) (.int v :: st)) : zG X w nL S lv pc st := z_row (fun _ _ _ _ kk => lv_iconst hc.1.1 hc.1.2.1 hd hv kk) k
theorem z_bipush (hc : zC X cc nL own R) {n : Int} (v : Int32) (hd : decode cc pc = .ok (.bipush n, 2)) (hv : (Int8.ofInt n).toInt32 = v) (k : zG X w nL S lv (pc + 2) (.int v :: st)) : zG X w nL S lv pc st := z_row (fun _ _ _ _ kk => lv_bipush hc.1.1 hc.1.2.1 hd hv kk) k
theorem z_sipush (hc : zC X cc nL own R) {n : Int} (v : Int32) (hd : decode cc pc = .ok (.sipush n, 3)) (hv : (Int16.ofInt n).toInt32 = v) (k : zG X w nL S lv (pc + 3) (.int v :: st)) : zG X w nL S lv pc st := z_row (fun _ _ _ _ kk => lv_sipush hc.1.1 hc.1.2.1 hd hv kk) k
theorem z_lconst (hc : zC X cc nL own R) {n : Fin 2} (v : Nat) (hd : decode cc pc = .ok (.lconst n, 1)) (hv : Int64.ofNat (n : Nat) = lN v) (k : zG X w nL S lv (pc + 1) (.long (lN v) :: st)) : zG X w nL S lv pc st := z_row (fun _ _ _ _ kk => lv_lconst hc.1.1 hc.1.2.1 hd hv kk) k
theorem z_iload_n (hc : zC X cc nL own R) {f : Fin 4} {i : Nat} {x : Int32} (hd : decode cc pc = .ok (.iload_n f, 1)) (j : Nat) (hi : (f : Nat) = i) (hj : lv[j]? = some (i, .int x)) (k : zG X w nL S lv (pc + 1) (.int x :: st)) : zG X w nL S lv pc st := z_row (fun _ _ _ hl kk => lv_iload_n hc.1.1 hc.1.2.1 hd hi (lv_at hl j hj) kk) k
theorem z_iload (hc : zC X cc nL own R) {i : Nat} {x : Int32} (hd : decode cc pc = .ok (.iload i, 2)) (j : Nat) (hj : lv[j]? = some (i, .int x)) (k : zG X w nL S lv (pc + 2) (.int x :: st)) : zG X w nL S lv pc st := z_row (fun _ _ _ hl kk => lv_iload hc.1.1 hc.1.2.1 hd (lv_at hl j hj) kk) k
theorem z_aload_n (hc : zC X cc nL own R) {f : Fin 4} {i x : Nat} (hd : decode cc pc = .ok (.aload_n f, 1)) (j : Nat) (hi : (f : Nat) = i) (hj : lv[j]? = some (i, .ref x)) (k : zG X w nL S lv (pc + 1) (.ref x :: st)) : zG X w nL S lv pc st := z_row (fun _ _ _ hl kk => lv_aload_n hc.1.1 hc.1.2.1 hd hi (lv_at hl j hj) kk) k
theorem z_istore_n (hc : zC X cc nL own R) {f : Fin 4} {i : Nat} {x : Int32} {lv' : List (Nat × Value)} (hd : decode cc pc = .ok (.istore_n f, 1)) (hi : (f : Nat) = i) (hn : i < nL) (hl : lset lv i (.int x) = lv') (k : zG X w nL S lv' (pc + 1) st) : zG X w nL S lv pc (.int x :: st) := fun H locs ls hP hD hS h => lv_istore_n hc.1.1 hc.1.2.1 hd hi h hn rfl (fun ls' h' => k H locs ls' hP hD hS (hl ▸ lset_ok h'))
theorem z_istore (hc : zC X cc nL own R) {i : Nat} {x : Int32} {lv' : List (Nat × Value)} (hd : decode cc pc = .ok (.istore i, 2)) (hn : i < nL) (hl : lset lv i (.int x) = lv') (k : zG X w nL S lv' (pc + 2) st) : zG X w nL S lv pc (.int x :: st) := fun H locs ls hP hD hS h => lv_istore hc.1.1 hc.1.2.1 hd h hn rfl (fun ls' h' => k H locs ls' hP hD hS (hl ▸ lset_ok h'))
theorem z_iincG (hc : zC X cc nL own R) {i : Nat} {n : Int} {x v : Int32} {lv' : List (Nat × Value)} (hd : decode cc pc = .ok (.iinc i n, 3)) (j : Nat) (hj : lv[j]? = some (i, .int x)) (hv : x + Int32.ofInt n = v) (hn : i < nL) (hl : lset lv i (.int v) = lv') (k : zG X w nL S lv' (pc + 3) st) : zG X w nL S lv pc st := fun H locs ls hP hD hS h => lv_iinc hc.1.1 hc.1.2.1 hd h hj hv hn rfl (fun ls' h' => k H locs ls' hP hD hS (hl ▸ lset_ok h'))
theorem z_iinc (hc : zC X cc nL own R) {i a : Nat} {lv' : List (Nat × Value)} (hd : decode cc pc = .ok (.iinc i 1, 3)) (j : Nat) (hj : lv[j]? = some (i, .int (nI a))) (hn : i < nL) (hl : lset lv i (.int (nI (a + 1))) = lv') (k : zG X w nL S lv' (pc + 3) st) : zG X w nL S lv pc st := z_iincG hc hd j hj (nI_1 a) hn hl k
theorem z_iadd (hc : zC X cc nL own R) {a b : Nat} (hd : decode cc pc = .ok (.iadd, 1))  (k : zG X w nL S lv (pc + 1) (.int (nI (a + b)) :: st)) : zG X w nL S lv pc (.int (nI b) :: .int (nI a) :: st) := z_row (fun _ _ _ _ kk => lv_iadd hc.1.1 hc.1.2.1 hd (by rw [nI_add]; exact kk)) k
theorem z_imul (hc : zC X cc nL own R) {a b : Nat} (hd : decode cc pc = .ok (.imul, 1))  (k : zG X w nL S lv (pc + 1) (.int (nI (a * b)) :: st)) : zG X w nL S lv pc (.int (nI b) :: .int (nI a) :: st) := z_row (fun _ _ _ _ kk => lv_imul hc.1.1 hc.1.2.1 hd (by rw [pk_mul]; exact kk)) k
theorem z_isub (hc : zC X cc nL own R) {a b : Nat} (hd : decode cc pc = .ok (.isub, 1)) (h : b ≤ a) (k : zG X w nL S lv (pc + 1) (.int (nI (a - b)) :: st)) : zG X w nL S lv pc (.int (nI b) :: .int (nI a) :: st) := z_row (fun _ _ _ _ kk => lv_isub hc.1.1 hc.1.2.1 hd (by rw [pk_sub h]; exact kk)) k
theorem z_idiv (hc : zC X cc nL own R) {a b : Nat} (hd : decode cc pc = .ok (.idiv, 1)) (ha : a < 2 ^ 31) (h0 : 0 < b) (hb : b < 2 ^ 31) (k : zG X w nL S lv (pc + 1) (.int (nI (a / b)) :: st)) : zG X w nL S lv pc (.int (nI b) :: .int (nI a) :: st) := z_row (fun _ _ _ _ kk => lv_idiv hc.1.1 hc.1.2.1 hd (nI_ne0 h0 hb) (by rw [pk_div ha h0 hb]; exact kk)) k
theorem z_irem (hc : zC X cc nL own R) {a b : Nat} (hd : decode cc pc = .ok (.irem, 1)) (ha : a < 2 ^ 31) (h0 : 0 < b) (hb : b < 2 ^ 31) (k : zG X w nL S lv (pc + 1) (.int (nI (a % b)) :: st)) : zG X w nL S lv pc (.int (nI b) :: .int (nI a) :: st) := z_row (fun _ _ _ _ kk => lv_irem hc.1.1 hc.1.2.1 hd (nI_ne0 h0 hb) (by rw [pk_rem ha h0 hb]; exact kk)) k
theorem z_ior (hc : zC X cc nL own R) {a b : Nat} (hd : decode cc pc = .ok (.ior, 1))  (k : zG X w nL S lv (pc + 1) (.int (nI (a ||| b)) :: st)) : zG X w nL S lv pc (.int (nI b) :: .int (nI a) :: st) := z_row (fun _ _ _ _ kk => lv_ior hc.1.1 hc.1.2.1 hd (by rw [fa_or]; exact kk)) k
theorem z_ishl (hc : zC X cc nL own R) {a b : Nat} (hd : decode cc pc = .ok (.ishl, 1)) (p : Nat) (hp : 2 ^ b = p) (hb : b < 32) (h : a * p < 2 ^ 32) (k : zG X w nL S lv (pc + 1) (.int (nI (a * p)) :: st)) : zG X w nL S lv pc (.int (nI b) :: .int (nI a) :: st) := z_row (fun _ _ _ _ kk => lv_ishl hc.1.1 hc.1.2.1 hd (by subst hp; rw [shl_nI hb h]; exact kk)) k
theorem z_ishr (hc : zC X cc nL own R) {a b : Nat} (hd : decode cc pc = .ok (.ishr, 1)) (p : Nat) (hp : 2 ^ b = p) (hb : b < 32) (h : a < 2 ^ 31) (k : zG X w nL S lv (pc + 1) (.int (nI (a / p)) :: st)) : zG X w nL S lv pc (.int (nI b) :: .int (nI a) :: st) := z_row (fun _ _ _ _ kk => lv_ishr hc.1.1 hc.1.2.1 hd (by subst hp; rw [shr_nI hb h]; exact kk)) k
theorem z_iandm (hc : zC X cc nL own R) {a b : Nat} (m p : Nat) (hd : decode cc pc = .ok (.iand, 1)) (hp : 2 ^ m = p) (hm : b = 2 ^ m - 1) (k : zG X w nL S lv (pc + 1) (.int (nI (a % p)) :: st)) : zG X w nL S lv pc (.int (nI b) :: .int (nI a) :: st) := z_row (fun _ _ _ _ kk => lv_iand hc.1.1 hc.1.2.1 hd (by subst hp; rw [hm, fa_mask]; exact kk)) k
theorem z_isubR (hc : zC X cc nL own R) {x y : Int32} (v : Int32) (hd : decode cc pc = .ok (.isub, 1)) (hv : x - y = v) (k : zG X w nL S lv (pc + 1) (.int v :: st)) : zG X w nL S lv pc (.int y :: .int x :: st) := z_row (fun _ _ _ _ kk => lv_isub hc.1.1 hc.1.2.1 hd (by rw [hv]; exact kk)) k
theorem z_iandR (hc : zC X cc nL own R) {x y : Int32} (v : Int32) (hd : decode cc pc = .ok (.iand, 1)) (hv : x &&& y = v) (k : zG X w nL S lv (pc + 1) (.int v :: st)) : zG X w nL S lv pc (.int y :: .int x :: st) := z_row (fun _ _ _ _ kk => lv_iand hc.1.1 hc.1.2.1 hd (by rw [hv]; exact kk)) k
theorem z_ixorR (hc : zC X cc nL own R) {x y : Int32} (v : Int32) (hd : decode cc pc = .ok (.ixor, 1)) (hv : x ^^^ y = v) (k : zG X w nL S lv (pc + 1) (.int v :: st)) : zG X w nL S lv pc (.int y :: .int x :: st) := z_row (fun _ _ _ _ kk => lv_ixor hc.1.1 hc.1.2.1 hd (by rw [hv]; exact kk)) k
theorem z_iorR (hc : zC X cc nL own R) {x y : Int32} (v : Int32) (hd : decode cc pc = .ok (.ior, 1)) (hv : x ||| y = v) (k : zG X w nL S lv (pc + 1) (.int v :: st)) : zG X w nL S lv pc (.int y :: .int x :: st) := z_row (fun _ _ _ _ kk => lv_ior hc.1.1 hc.1.2.1 hd (by rw [hv]; exact kk)) k
theorem z_iaddR (hc : zC X cc nL own R) {x y : Int32} (v : Int32) (hd : decode cc pc = .ok (.iadd, 1)) (hv : x + y = v) (k : zG X w nL S lv (pc + 1) (.int v :: st)) : zG X w nL S lv pc (.int y :: .int x :: st) := z_row (fun _ _ _ _ kk => lv_iadd hc.1.1 hc.1.2.1 hd (by rw [hv]; exact kk)) k
theorem z_ishlR (hc : zC X cc nL own R) {x y : Int32} (v : Int32) (hd : decode cc pc = .ok (.ishl, 1)) (hv : x <<< (y &&& 31) = v) (k : zG X w nL S lv (pc + 1) (.int v :: st)) : zG X w nL S lv pc (.int y :: .int x :: st) := z_row (fun _ _ _ _ kk => lv_ishl hc.1.1 hc.1.2.1 hd (by rw [hv]; exact kk)) k
theorem z_i2b (hc : zC X cc nL own R) {a : Nat} (hd : decode cc pc = .ok (.i2b, 1)) (h : a < 128) (k : zG X w nL S lv (pc + 1) (.int (nI a) :: st)) : zG X w nL S lv pc (.int (nI a) :: st) := z_row (fun _ _ _ _ kk => lv_i2b hc.1.1 hc.1.2.1 hd (fa_byte_small h) kk) k
theorem z_lushr (hc : zC X cc nL own R) {a b : Nat} (hd : decode cc pc = .ok (.lushr, 1)) (ha : a < 2 ^ 64) (hb : b < 64) (k : zG X w nL S lv (pc + 1) (.long (lN (a / 2 ^ b)) :: st)) : zG X w nL S lv pc (.int (nI b) :: .long (lN a) :: st) := z_row (fun _ _ _ _ kk => lv_lushr hc.1.1 hc.1.2.1 hd (wb_shr ha hb) kk) k
theorem z_lshl (hc : zC X cc nL own R) {a b : Nat} (hd : decode cc pc = .ok (.lshl, 1)) (hb : b < 64) (k : zG X w nL S lv (pc + 1) (.long (lN (a * 2 ^ b)) :: st)) : zG X w nL S lv pc (.int (nI b) :: .long (lN a) :: st) := z_row (fun _ _ _ _ kk => lv_lshl hc.1.1 hc.1.2.1 hd (wb_shl a hb) kk) k
theorem z_land1 (hc : zC X cc nL own R) {a : Nat} (hd : decode cc pc = .ok (.land, 1)) (ha : a < 2 ^ 64) (k : zG X w nL S lv (pc + 1) (.long (lN (a % 2)) :: st)) : zG X w nL S lv pc (.long (lN 1) :: .long (lN a) :: st) := z_row (fun _ _ _ _ kk => lv_land hc.1.1 hc.1.2.1 hd (by rw [show lN a &&& lN 1 = lN (a % 2) from wb_mask (k := 1) ha (by decide)]; exact kk)) k
theorem z_lor (hc : zC X cc nL own R) {a b : Nat} (hd : decode cc pc = .ok (.lor, 1)) (ha : a < 2 ^ 64) (hb : b < 2 ^ 64) (k : zG X w nL S lv (pc + 1) (.long (lN (a ||| b)) :: st)) : zG X w nL S lv pc (.long (lN b) :: .long (lN a) :: st) := z_row (fun _ _ _ _ kk => lv_lor hc.1.1 hc.1.2.1 hd (by rw [wb_or ha hb]; exact kk)) k
theorem z_lcmp0 (hc : zC X cc nL own R) {a : Nat} (hd : decode cc pc = .ok (.lcmp, 1)) (ha : a < 2) (k : zG X w nL S lv (pc + 1) (.int (nI a) :: st)) : zG X w nL S lv pc (.long (lN 0) :: .long (lN a) :: st) := z_row (fun _ _ _ _ kk => W.lcmp hc.1.1 hc.1.2.1 hd (by rw [cmp_lN a ha]; exact kk)) k
theorem z_dup (hc : zC X cc nL own R) {va : Value} (hd : decode cc pc = .ok (.dup, 1)) (h : va.category = 1) (k : zG X w nL S lv (pc + 1) (va :: va :: st)) : zG X w nL S lv pc (va :: st) := z_row (fun _ _ _ _ kk => lv_dup hc.1.1 hc.1.2.1 hd h kk) k
theorem z_pop (hc : zC X cc nL own R) {va : Value} (hd : decode cc pc = .ok (.pop, 1)) (h : va.category = 1) (k : zG X w nL S lv (pc + 1) st) : zG X w nL S lv pc (va :: st) := z_row (fun _ _ _ _ kk => lv_pop hc.1.1 hc.1.2.1 hd h kk) k
theorem z_dup2 (hc : zC X cc nL own R) {va vb : Value} (hd : decode cc pc = .ok (.dup2, 1)) (ha : va.category = 1) (hb : vb.category = 1) (k : zG X w nL S lv (pc + 1) (va :: vb :: va :: vb :: st)) : zG X w nL S lv pc (va :: vb :: st) := z_row (fun _ _ _ _ kk => lv_dup2_11 hc.1.1 hc.1.2.1 hd ha hb kk) k
theorem z_goto (hc : zC X cc nL own R) {off : Int} (tgt : Nat) (hd : decode cc pc = .ok (.goto off, 3)) (ht : (pc : Int) + off = (tgt : Int)) (k : zG X w nL S lv tgt st) : zG X w nL S lv pc st := z_row (fun _ _ _ _ kk => lv_goto hc.1.1 hc.1.2.1 hd ht kk) k
theorem z_icmp_eq (hc : zC X cc nL own R) {x y : Int32} {xi yi : Int} {off : Int} (tgt : Nat) (hd : decode cc pc = .ok (.if_icmp .eq off, 3)) (ht : (pc : Int) + off = (tgt : Int)) (hx : x.toInt = xi) (hy : y.toInt = yi) (kt : xi = yi → zG X w nL S lv tgt st) (kf : ¬ (xi = yi) → zG X w nL S lv (pc + 3) st) : zG X w nL S lv pc (.int y :: .int x :: st) := fun H locs ls hP hD hS hl => lv_icmp_eq hc.1.1 hc.1.2.1 hd ht (fun h => (fun h => kt (by rw [← hx, ← hy, h])) h H locs ls hP hD hS hl) (fun h => (fun h => kf (fun h2 => h (Int32.toInt_inj.mp (by rw [hx, hy, h2])))) h H locs ls hP hD hS hl)
theorem z_if_eq (hc : zC X cc nL own R) {x : Int32} {xi : Int} {off : Int} (tgt : Nat) (hd : decode cc pc = .ok (.ifCond .eq off, 3)) (ht : (pc : Int) + off = (tgt : Int)) (hx : x.toInt = xi) (kt : xi = 0 → zG X w nL S lv tgt st) (kf : ¬ (xi = 0) → zG X w nL S lv (pc + 3) st) : zG X w nL S lv pc (.int x :: st) := fun H locs ls hP hD hS hl => have hy : (0 : Int32).toInt = 0 := rfl; lv_if_eq hc.1.1 hc.1.2.1 hd ht (fun h => (fun h => kt (by rw [← hx, ← hy, h])) h H locs ls hP hD hS hl) (fun h => (fun h => kf (fun h2 => h (Int32.toInt_inj.mp (by rw [hx, hy, h2])))) h H locs ls hP hD hS hl)
theorem z_icmp_ne (hc : zC X cc nL own R) {x y : Int32} {xi yi : Int} {off : Int} (tgt : Nat) (hd : decode cc pc = .ok (.if_icmp .ne off, 3)) (ht : (pc : Int) + off = (tgt : Int)) (hx : x.toInt = xi) (hy : y.toInt = yi) (kt : ¬ xi = yi → zG X w nL S lv tgt st) (kf : xi = yi → zG X w nL S lv (pc + 3) st) : zG X w nL S lv pc (.int y :: .int x :: st) := fun H locs ls hP hD hS hl => lv_icmp_ne hc.1.1 hc.1.2.1 hd ht (fun h => (fun h => kt (fun h2 => h (Int32.toInt_inj.mp (by rw [hx, hy, h2])))) h H locs ls hP hD hS hl) (fun h => (fun h => kf (by rw [← hx, ← hy, h])) h H locs ls hP hD hS hl)
theorem z_if_ne (hc : zC X cc nL own R) {x : Int32} {xi : Int} {off : Int} (tgt : Nat) (hd : decode cc pc = .ok (.ifCond .ne off, 3)) (ht : (pc : Int) + off = (tgt : Int)) (hx : x.toInt = xi) (kt : ¬ xi = 0 → zG X w nL S lv tgt st) (kf : xi = 0 → zG X w nL S lv (pc + 3) st) : zG X w nL S lv pc (.int x :: st) := fun H locs ls hP hD hS hl => have hy : (0 : Int32).toInt = 0 := rfl; lv_if_ne hc.1.1 hc.1.2.1 hd ht (fun h => (fun h => kt (fun h2 => h (Int32.toInt_inj.mp (by rw [hx, hy, h2])))) h H locs ls hP hD hS hl) (fun h => (fun h => kf (by rw [← hx, ← hy, h])) h H locs ls hP hD hS hl)
theorem z_icmp_lt (hc : zC X cc nL own R) {x y : Int32} {xi yi : Int} {off : Int} (tgt : Nat) (hd : decode cc pc = .ok (.if_icmp .lt off, 3)) (ht : (pc : Int) + off = (tgt : Int)) (hx : x.toInt = xi) (hy : y.toInt = yi) (kt : xi < yi → zG X w nL S lv tgt st) (kf : ¬ (xi < yi) → zG X w nL S lv (pc + 3) st) : zG X w nL S lv pc (.int y :: .int x :: st) := fun H locs ls hP hD hS hl => lv_icmp_lt hc.1.1 hc.1.2.1 hd ht (fun h => (fun h => kt (by rw [← hx, ← hy]; exact Int32.lt_iff_toInt_lt.mp h)) h H locs ls hP hD hS hl) (fun h => (fun h => kf (fun h2 => h (Int32.lt_iff_toInt_lt.mpr (by rw [hx, hy]; exact h2)))) h H locs ls hP hD hS hl)
theorem z_if_lt (hc : zC X cc nL own R) {x : Int32} {xi : Int} {off : Int} (tgt : Nat) (hd : decode cc pc = .ok (.ifCond .lt off, 3)) (ht : (pc : Int) + off = (tgt : Int)) (hx : x.toInt = xi) (kt : xi < 0 → zG X w nL S lv tgt st) (kf : ¬ (xi < 0) → zG X w nL S lv (pc + 3) st) : zG X w nL S lv pc (.int x :: st) := fun H locs ls hP hD hS hl => have hy : (0 : Int32).toInt = 0 := rfl; lv_if_lt hc.1.1 hc.1.2.1 hd ht (fun h => (fun h => kt (by rw [← hx, ← hy]; exact Int32.lt_iff_toInt_lt.mp h)) h H locs ls hP hD hS hl) (fun h => (fun h => kf (fun h2 => h (Int32.lt_iff_toInt_lt.mpr (by rw [hx, hy]; exact h2)))) h H locs ls hP hD hS hl)
theorem z_icmp_ge (hc : zC X cc nL own R) {x y : Int32} {xi yi : Int} {off : Int} (tgt : Nat) (hd : decode cc pc = .ok (.if_icmp .ge off, 3)) (ht : (pc : Int) + off = (tgt : Int)) (hx : x.toInt = xi) (hy : y.toInt = yi) (kt : yi ≤ xi → zG X w nL S lv tgt st) (kf : ¬ (yi ≤ xi) → zG X w nL S lv (pc + 3) st) : zG X w nL S lv pc (.int y :: .int x :: st) := fun H locs ls hP hD hS hl => lv_icmp_ge hc.1.1 hc.1.2.1 hd ht (fun h => (fun h => kt (by rw [← hx, ← hy]; exact Int32.le_iff_toInt_le.mp h)) h H locs ls hP hD hS hl) (fun h => (fun h => kf (fun h2 => h (Int32.le_iff_toInt_le.mpr (by rw [hx, hy]; exact h2)))) h H locs ls hP hD hS hl)
theorem z_if_ge (hc : zC X cc nL own R) {x : Int32} {xi : Int} {off : Int} (tgt : Nat) (hd : decode cc pc = .ok (.ifCond .ge off, 3)) (ht : (pc : Int) + off = (tgt : Int)) (hx : x.toInt = xi) (kt : 0 ≤ xi → zG X w nL S lv tgt st) (kf : ¬ (0 ≤ xi) → zG X w nL S lv (pc + 3) st) : zG X w nL S lv pc (.int x :: st) := fun H locs ls hP hD hS hl => have hy : (0 : Int32).toInt = 0 := rfl; lv_if_ge hc.1.1 hc.1.2.1 hd ht (fun h => (fun h => kt (by rw [← hx, ← hy]; exact Int32.le_iff_toInt_le.mp h)) h H locs ls hP hD hS hl) (fun h => (fun h => kf (fun h2 => h (Int32.le_iff_toInt_le.mpr (by rw [hx, hy]; exact h2)))) h H locs ls hP hD hS hl)
theorem z_icmp_gt (hc : zC X cc nL own R) {x y : Int32} {xi yi : Int} {off : Int} (tgt : Nat) (hd : decode cc pc = .ok (.if_icmp .gt off, 3)) (ht : (pc : Int) + off = (tgt : Int)) (hx : x.toInt = xi) (hy : y.toInt = yi) (kt : yi < xi → zG X w nL S lv tgt st) (kf : ¬ (yi < xi) → zG X w nL S lv (pc + 3) st) : zG X w nL S lv pc (.int y :: .int x :: st) := fun H locs ls hP hD hS hl => lv_icmp_gt hc.1.1 hc.1.2.1 hd ht (fun h => (fun h => kt (by rw [← hx, ← hy]; exact Int32.lt_iff_toInt_lt.mp h)) h H locs ls hP hD hS hl) (fun h => (fun h => kf (fun h2 => h (Int32.lt_iff_toInt_lt.mpr (by rw [hx, hy]; exact h2)))) h H locs ls hP hD hS hl)
theorem z_if_gt (hc : zC X cc nL own R) {x : Int32} {xi : Int} {off : Int} (tgt : Nat) (hd : decode cc pc = .ok (.ifCond .gt off, 3)) (ht : (pc : Int) + off = (tgt : Int)) (hx : x.toInt = xi) (kt : 0 < xi → zG X w nL S lv tgt st) (kf : ¬ (0 < xi) → zG X w nL S lv (pc + 3) st) : zG X w nL S lv pc (.int x :: st) := fun H locs ls hP hD hS hl => have hy : (0 : Int32).toInt = 0 := rfl; lv_if_gt hc.1.1 hc.1.2.1 hd ht (fun h => (fun h => kt (by rw [← hx, ← hy]; exact Int32.lt_iff_toInt_lt.mp h)) h H locs ls hP hD hS hl) (fun h => (fun h => kf (fun h2 => h (Int32.lt_iff_toInt_lt.mpr (by rw [hx, hy]; exact h2)))) h H locs ls hP hD hS hl)
theorem z_icmp_le (hc : zC X cc nL own R) {x y : Int32} {xi yi : Int} {off : Int} (tgt : Nat) (hd : decode cc pc = .ok (.if_icmp .le off, 3)) (ht : (pc : Int) + off = (tgt : Int)) (hx : x.toInt = xi) (hy : y.toInt = yi) (kt : xi ≤ yi → zG X w nL S lv tgt st) (kf : ¬ (xi ≤ yi) → zG X w nL S lv (pc + 3) st) : zG X w nL S lv pc (.int y :: .int x :: st) := fun H locs ls hP hD hS hl => lv_icmp_le hc.1.1 hc.1.2.1 hd ht (fun h => (fun h => kt (by rw [← hx, ← hy]; exact Int32.le_iff_toInt_le.mp h)) h H locs ls hP hD hS hl) (fun h => (fun h => kf (fun h2 => h (Int32.le_iff_toInt_le.mpr (by rw [hx, hy]; exact h2)))) h H locs ls hP hD hS hl)
theorem z_if_le (hc : zC X cc nL own R) {x : Int32} {xi : Int} {off : Int} (tgt : Nat) (hd : decode cc pc = .ok (.ifCond .le off, 3)) (ht : (pc : Int) + off = (tgt : Int)) (hx : x.toInt = xi) (kt : xi ≤ 0 → zG X w nL S lv tgt st) (kf : ¬ (xi ≤ 0) → zG X w nL S lv (pc + 3) st) : zG X w nL S lv pc (.int x :: st) := fun H locs ls hP hD hS hl => have hy : (0 : Int32).toInt = 0 := rfl; lv_if_le hc.1.1 hc.1.2.1 hd ht (fun h => (fun h => kt (by rw [← hx, ← hy]; exact Int32.le_iff_toInt_le.mp h)) h H locs ls hP hD hS hl) (fun h => (fun h => kf (fun h2 => h (Int32.le_iff_toInt_le.mpr (by rw [hx, hy]; exact h2)))) h H locs ls hP hD hS hl)
theorem bI_0 {b : Bool} (h : nI b.toNat = 0) : b = false := by cases b <;> first | rfl | exact absurd h (by decide)
theorem bI_1 {b : Bool} (h : ¬ nI b.toNat = 0) : b = true := by cases b <;> first | rfl | exact absurd rfl h
theorem z_ifeqB (hc : zC X cc nL own R) {b : Bool} {off : Int} (tgt : Nat) (hd : decode cc pc = .ok (.ifCond .eq off, 3)) (ht : (pc : Int) + off = (tgt : Int)) (kt : b = false → zG X w nL S lv tgt st) (kf : b = true → zG X w nL S lv (pc + 3) st) : zG X w nL S lv pc (.int (nI b.toNat) :: st) := fun H locs ls hP hD hS hl => lv_if_eq hc.1.1 hc.1.2.1 hd ht (fun h => kt (bI_0 h) H locs ls hP hD hS hl) (fun h => kf (bI_1 h) H locs ls hP hD hS hl)
theorem z_ifneB (hc : zC X cc nL own R) {b : Bool} {off : Int} (tgt : Nat) (hd : decode cc pc = .ok (.ifCond .ne off, 3)) (ht : (pc : Int) + off = (tgt : Int)) (kt : b = true → zG X w nL S lv tgt st) (kf : b = false → zG X w nL S lv (pc + 3) st) : zG X w nL S lv pc (.int (nI b.toNat) :: st) := fun H locs ls hP hD hS hl => lv_if_ne hc.1.1 hc.1.2.1 hd ht (fun h => kt (bI_1 h) H locs ls hP hD hS hl) (fun h => kf (bI_0 h) H locs ls hP hD hS hl)
theorem z_iret {ty : FieldType} {post : Int32 → σ → Prop} {v : Int32} (hc : zC X cc nL own R) (hr : zRi X w (some ty) post) (hn : narrow ty (.int v) = .int v) (hd : decode cc pc = .ok (.ireturn, 1)) (hp : post v S) : zG X w nL S lv pc [.int v] := by
  intro H locs ls hP hD hS hl
  unfold zW
  rw [hr.2]
  exact W.zret (v := v) hc.1.1 hc.1.2.1 hr.1 hn (fun t ht hW => ⟨⟨v, S, rfl, hp, by rw [ht]; exact hP, va_K.moved hW.alike hc.2.2.1, hD⟩, hS.F ht⟩) hS.2.2 hd hc.2.2.2.2.1
theorem z_vret {post : σ → Prop} (hc : zC X cc nL own R) (hr : zRv X w none post) (hd : decode cc pc = .ok (.return_, 1)) (hp : post S) : zG X w nL S lv pc [] := by
  intro H locs ls hP hD hS hl
  unfold zW
  rw [hr.2]
  exact W.vret hc.1.1 hc.1.2.1 hr.1 (fun t ht hW => ⟨⟨S, rfl, hp, by rw [ht]; exact hP, va_K.moved hW.alike hc.2.2.1, hD⟩, hS.F ht⟩) hS.2.2 hd hc.2.2.2.2.1
theorem z_own {ws : va_W} {A : Nat → Prop} {H0 H : Heap} {locs : List Loc} (hD : va_D A ws) (hS : va_S A H0 H locs) (hA : ∀ q : Nat, H0.size ≤ q → A q) : ∀ q, va_A ws H.size q → A q := by
  intro q h
  rcases h with ⟨k, e, h⟩ | h
  · exact hD.2 k (q, e) h
  · exact hA q (Nat.le_trans hS.1 h)
theorem z_blind {as : List Value} {K : zK} {sz : Nat} : FrameBlind (va_Pc as (zPre K w S sz)) := fun a U g mk q => by
  obtain ⟨q0, q1, qP, qK, qD⟩ := q
  exact ⟨q0, q1, qP, va_K.moved (u := U) (U := U.calling g mk a) (Vm.Alike.refl U.vm) qK, qD⟩
theorem z_callVi {y : MethodName} {bytes : ByteArray} {maxL index n ci q0 : Nat} {ret : Option FieldType} {rm : Room} {C : String} {T : u_T} {N : Nat} {fs : List Value} {b : Nat} {As rest stk : List Value} {post : Int32 → σ → Prop} (hc : zC X cc nL own R) (hM : zMi (zx_l X) y bytes maxL ret rm (zx_K X) w S (.ref b :: As) post) (hT : GoodIn lw_all (wsV own index C y (ws_ y bytes maxL ret))) (hd : y.cls = C ∧ y.cls ≠ "java/lang/invoke/MethodHandle" ∧ y.cls ≠ "java/lang/invoke/VarHandle" ∧ (parseMethodDescriptor y.desc).map (fun d => d.parameters.length) = some n) (hR : (rm.cells = 0 ∧ rm.slots = 0) ∧ rm.frames + 1 ≤ R.frames ∧ 8 + (maxL + 11) + rm.locals ≤ R.locals) (hci : vwCl[ci]? = some (C, T, N)) (he : (w S)[q0]? = some (b, .inr (ci, fs))) (hn : As.length = n) (hst : stk = As.reverse ++ .ref b :: rest) (hW : (rest.map fun v => v.category).sum ≤ 8) (hdg : decode cc pc = .ok (.invokevirtual index, 3)) (kk : ∀ (r : Int32) (S' : σ), post r S' → zG X w nL S' lv (pc + 3) (.int r :: rest)) : zG X w nL S lv pc stk := by
  intro H locs ls hP hD hS hl
  obtain ⟨⟨hx, hb, hml, hown, hts⟩, hA, hK, hRm, hlk, hf⟩ := hc
  subst hst
  have hFc := z_own hD hS hA
  refine va_calli (va_runV (As := As) (rest := rest) ⟨hx, hb, hml, hown, hts⟩ (hM H.size) (cwV n hts hT rfl hR.1.1 hR.1.2 hd (by rw [hRm]; exact hR.2)) ⟨z_blind, va_recv hK hP hci he, fun U hU hW => ⟨rfl, by rw [hU], by rw [hU]; exact hP, va_K.moved hW.alike hK, hD.weaken (fun _ _ _ _ => trivial)⟩⟩ rfl hn hl.1 rfl (lv_room hW) hdg ⟨by rw [hRm]; exact hf.1, by rw [hRm]; exact hf.2⟩) hS (fun q _ h => hFc q h) hFc (fun r S' t H1 locs1 ht hvm hp hB hz1 hk1 hS1 => ?_)
  obtain ⟨hP1, hK1, hD1⟩ := hB
  rw [ht] at hP1
  exact kk r S' hp H1 locs1 ls hP1 (hD1.weaken (fun _ q _ h => hFc q.1 h)) hS1 hl
theorem z_callSi {y : MethodName} {bytes : ByteArray} {maxL index n : Nat} {ret : Option FieldType} {rm : Room} {As rest stk : List Value} {post : Int32 → σ → Prop} (hc : zC X cc nL own R) (hM : zMi (zx_l X) y bytes maxL ret rm (zx_K X) w S As post) (hT : GoodIn lw_all (va_wsS own index y (ws_ y bytes maxL ret))) (hd : y.cls ≠ "java/lang/invoke/MethodHandle" ∧ y.cls ≠ "java/lang/invoke/VarHandle" ∧ (parseMethodDescriptor y.desc).map (fun d => d.parameters.length) = some n) (hR : (rm.cells = 0 ∧ rm.slots = 0) ∧ rm.frames + 1 ≤ R.frames ∧ 8 + (maxL + 11) + rm.locals ≤ R.locals) (hn : As.length = n) (hst : stk = As.reverse ++ rest) (hW : (rest.map fun v => v.category).sum ≤ 8) (hdg : decode cc pc = .ok (.invokestatic index, 3)) (kk : ∀ (r : Int32) (S' : σ), post r S' → zG X w nL S' lv (pc + 3) (.int r :: rest)) : zG X w nL S lv pc stk := by
  intro H locs ls hP hD hS hl
  obtain ⟨⟨hx, hb, hml, hown, hts⟩, hA, hK, hRm, hlk, hf⟩ := hc
  subst hst
  have hFc := z_own hD hS hA
  refine va_calli (va_runS (As := As) (rest := rest) ⟨hx, hb, hml, hown, hts⟩ (hM H.size) (va_cwS n hts hT rfl hR.1.1 hR.1.2 hd (by rw [hRm]; exact hR.2)) ⟨z_blind, fun U hU hW => ⟨rfl, by rw [hU], by rw [hU]; exact hP, va_K.moved hW.alike hK, hD.weaken (fun _ _ _ _ => trivial)⟩⟩ rfl hn hl.1 rfl (lv_room hW) hdg ⟨by rw [hRm]; exact hf.1, by rw [hRm]; exact hf.2⟩) hS (fun q _ h => hFc q h) hFc (fun r S' t H1 locs1 ht hvm hp hB hz1 hk1 hS1 => ?_)
  obtain ⟨hP1, hK1, hD1⟩ := hB
  rw [ht] at hP1
  exact kk r S' hp H1 locs1 ls hP1 (hD1.weaken (fun _ q _ h => hFc q.1 h)) hS1 hl
theorem z_callVv {y : MethodName} {bytes : ByteArray} {maxL index n ci q0 : Nat} {ret : Option FieldType} {rm : Room} {C : String} {T : u_T} {N : Nat} {fs : List Value} {b : Nat} {As rest stk : List Value} {post : σ → Prop} (hc : zC X cc nL own R) (hM : zMv (zx_l X) y bytes maxL ret rm (zx_K X) w S (.ref b :: As) post) (hT : GoodIn lw_all (wsV own index C y (ws_ y bytes maxL ret))) (hd : y.cls = C ∧ y.cls ≠ "java/lang/invoke/MethodHandle" ∧ y.cls ≠ "java/lang/invoke/VarHandle" ∧ (parseMethodDescriptor y.desc).map (fun d => d.parameters.length) = some n) (hR : (rm.cells = 0 ∧ rm.slots = 0) ∧ rm.frames + 1 ≤ R.frames ∧ 8 + (maxL + 11) + rm.locals ≤ R.locals) (hci : vwCl[ci]? = some (C, T, N)) (he : (w S)[q0]? = some (b, .inr (ci, fs))) (hn : As.length = n) (hst : stk = As.reverse ++ .ref b :: rest) (hW : (rest.map fun v => v.category).sum ≤ 8) (hdg : decode cc pc = .ok (.invokevirtual index, 3)) (kk : ∀ (S' : σ), post S' → zG X w nL S' lv (pc + 3) rest) : zG X w nL S lv pc stk := by
  intro H locs ls hP hD hS hl
  obtain ⟨⟨hx, hb, hml, hown, hts⟩, hA, hK, hRm, hlk, hf⟩ := hc
  subst hst
  have hFc := z_own hD hS hA
  refine va_callv (va_runV (As := As) (rest := rest) ⟨hx, hb, hml, hown, hts⟩ (hM H.size) (cwV n hts hT rfl hR.1.1 hR.1.2 hd (by rw [hRm]; exact hR.2)) ⟨z_blind, va_recv hK hP hci he, fun U hU hW => ⟨rfl, by rw [hU], by rw [hU]; exact hP, va_K.moved hW.alike hK, hD.weaken (fun _ _ _ _ => trivial)⟩⟩ rfl hn hl.1 rfl (lv_room hW) hdg ⟨by rw [hRm]; exact hf.1, by rw [hRm]; exact hf.2⟩) hS (fun q _ h => hFc q h) hFc (fun S' t H1 locs1 ht hvm hp hB hz1 hk1 hS1 => ?_)
  obtain ⟨hP1, hK1, hD1⟩ := hB
  rw [ht] at hP1
  exact kk S' hp H1 locs1 ls hP1 (hD1.weaken (fun _ q _ h => hFc q.1 h)) hS1 hl
theorem z_callSv {y : MethodName} {bytes : ByteArray} {maxL index n : Nat} {ret : Option FieldType} {rm : Room} {As rest stk : List Value} {post : σ → Prop} (hc : zC X cc nL own R) (hM : zMv (zx_l X) y bytes maxL ret rm (zx_K X) w S As post) (hT : GoodIn lw_all (va_wsS own index y (ws_ y bytes maxL ret))) (hd : y.cls ≠ "java/lang/invoke/MethodHandle" ∧ y.cls ≠ "java/lang/invoke/VarHandle" ∧ (parseMethodDescriptor y.desc).map (fun d => d.parameters.length) = some n) (hR : (rm.cells = 0 ∧ rm.slots = 0) ∧ rm.frames + 1 ≤ R.frames ∧ 8 + (maxL + 11) + rm.locals ≤ R.locals) (hn : As.length = n) (hst : stk = As.reverse ++ rest) (hW : (rest.map fun v => v.category).sum ≤ 8) (hdg : decode cc pc = .ok (.invokestatic index, 3)) (kk : ∀ (S' : σ), post S' → zG X w nL S' lv (pc + 3) rest) : zG X w nL S lv pc stk := by
  intro H locs ls hP hD hS hl
  obtain ⟨⟨hx, hb, hml, hown, hts⟩, hA, hK, hRm, hlk, hf⟩ := hc
  subst hst
  have hFc := z_own hD hS hA
  refine va_callv (va_runS (As := As) (rest := rest) ⟨hx, hb, hml, hown, hts⟩ (hM H.size) (va_cwS n hts hT rfl hR.1.1 hR.1.2 hd (by rw [hRm]; exact hR.2)) ⟨z_blind, fun U hU hW => ⟨rfl, by rw [hU], by rw [hU]; exact hP, va_K.moved hW.alike hK, hD.weaken (fun _ _ _ _ => trivial)⟩⟩ rfl hn hl.1 rfl (lv_room hW) hdg ⟨by rw [hRm]; exact hf.1, by rw [hRm]; exact hf.2⟩) hS (fun q _ h => hFc q h) hFc (fun S' t H1 locs1 ht hvm hp hB hz1 hk1 hS1 => ?_)
  obtain ⟨hP1, hK1, hD1⟩ := hB
  rw [ht] at hP1
  exact kk S' hp H1 locs1 ls hP1 (hD1.weaken (fun _ q _ h => hFc q.1 h)) hS1 hl
theorem z_get {C : String} {T : u_T} {N ci index q0 a : Nat} {fs : List Value} {v : Value} (hc : zC X cc nL own R) (hin : ∀ w ∈ u_ws C T N, w ∈ lw_all) (hci : vwCl[ci]? = some (C, T, N)) (he : (w S)[q0]? = some (a, .inr (ci, fs))) (k : Nat) (hk : k < N) (hlink : Cond.fieldLink own index (T k).1 (T k).2.1 (T k).2.2.1 ∈ lw_all) (hv : fs[k]? = some v) (hd : decode cc pc = .ok (.getfield index, 3)) (kk : zG X w nL S lv (pc + 3) (v :: st)) : zG X w nL S lv pc (.ref a :: st) := fun H locs ls hP hD hS hl => va_get hc.1.1 hc.1.2.1 hc.1.2.2.2.2 hin hc.1.2.2.2.1 hc.2.2.1 hP q0 he hci k hk (hc.1.2.2.2.2 _ hlink) (fun _ h => h) hv hd (kk H locs ls hP hD hS hl)
theorem z_bald {q0 N a : Nat} {f : Nat → Nat} {k : Nat} (hc : zC X cc nL own R) (he : (w S)[q0]? = some (a, .inl ((zx_K X).2.1, N, .inl (fun j => nI (f j))))) (hk : k < N) (hN : N < 2 ^ 31) (hd : decode cc pc = .ok (.baload, 1)) (kk : zG X w nL S lv (pc + 1) (.int (nI (f k)) :: st)) : zG X w nL S lv pc (.int (nI k) :: .ref a :: st) := fun H locs ls hP hD hS hl => va_bald hc.1.1 hc.1.2.1 hc.2.2.1 hP q0 0 he rfl (vp_in_nI hk hN) hd (by rw [nI_clamp (Nat.lt_trans hk hN)]; exact kk H locs ls hP hD hS hl)
theorem z_zald {q0 N a : Nat} {f : Nat → Nat} {k : Nat} (hc : zC X cc nL own R) (he : (w S)[q0]? = some (a, .inl ((zx_K X).2.2.1, N, .inl (fun j => nI (f j))))) (hk : k < N) (hN : N < 2 ^ 31) (hd : decode cc pc = .ok (.baload, 1)) (kk : zG X w nL S lv (pc + 1) (.int (nI (f k)) :: st)) : zG X w nL S lv pc (.int (nI k) :: .ref a :: st) := fun H locs ls hP hD hS hl => va_zald hc.1.1 hc.1.2.1 hc.2.2.1 hP q0 1 he rfl (vp_in_nI hk hN) hd (by rw [nI_clamp (Nat.lt_trans hk hN)]; exact kk H locs ls hP hD hS hl)
theorem z_iald {q0 N a : Nat} {f : Nat → Nat} {k : Nat} (hc : zC X cc nL own R) (he : (w S)[q0]? = some (a, .inl ((zx_K X).2.2.2.2, N, .inl (fun j => nI (f j))))) (hk : k < N) (hN : N < 2 ^ 31) (hd : decode cc pc = .ok (.iaload, 1)) (kk : zG X w nL S lv (pc + 1) (.int (nI (f k)) :: st)) : zG X w nL S lv pc (.int (nI k) :: .ref a :: st) := fun H locs ls hP hD hS hl => va_iald hc.1.1 hc.1.2.1 hc.2.2.1 hP q0 3 he rfl (vp_in_nI hk hN) hd (by rw [nI_clamp (Nat.lt_trans hk hN)]; exact kk H locs ls hP hD hS hl)
theorem z_lald {q0 N a : Nat} {f : Nat → Nat} {k : Nat} (hc : zC X cc nL own R) (he : (w S)[q0]? = some (a, .inl ((zx_K X).2.2.2.1, N, .inr (.inl (fun j => lN (f j)))))) (hk : k < N) (hN : N < 2 ^ 31) (hd : decode cc pc = .ok (.laload, 1)) (kk : zG X w nL S lv (pc + 1) (.long (lN (f k)) :: st)) : zG X w nL S lv pc (.int (nI k) :: .ref a :: st) := fun H locs ls hP hD hS hl => va_lald hc.1.1 hc.1.2.1 hc.2.2.1 hP q0 2 he rfl (vp_in_nI hk hN) hd (by rw [nI_clamp (Nat.lt_trans hk hN)]; exact kk H locs ls hP hD hS hl)
theorem z_bast {q0 N a : Nat} {f : Nat → Nat} {k v : Nat} (hc : zC X cc nL own R) (he : (w S)[q0]? = some (a, .inl ((zx_K X).2.1, N, .inl (fun j => nI (f j))))) (hk : k < N) (hN : N < 2 ^ 31) (hv : v < 128) {S' : σ} (hs : (w S).set q0 (a, .inl ((zx_K X).2.1, N, .inl (fun j => nI (updN f k v j)))) = w S') (hd : decode cc pc = .ok (.bastore, 1)) (kk : zG X w nL S' lv (pc + 1) st) : zG X w nL S lv pc (.int (nI v) :: .int (nI k) :: .ref a :: st) := by
  intro H locs ls hP hD hS hl
  refine va_bast hc.1.1 hc.1.2.1 hc.2.2.1 hP hD hS q0 0 he rfl (vp_in_nI hk hN) hd (fun H1 locs1 hP1 hD1 hS1 => ?_)
  rw [nI_clamp (Nat.lt_trans hk hN), nar_b hv, upd_nI, hs] at hP1 hD1
  exact kk H1 locs1 ls hP1 hD1 hS1 hl
theorem z_zast {q0 N a : Nat} {f : Nat → Nat} {k v : Nat} (hc : zC X cc nL own R) (he : (w S)[q0]? = some (a, .inl ((zx_K X).2.2.1, N, .inl (fun j => nI (f j))))) (hk : k < N) (hN : N < 2 ^ 31) (hv : v < 2) {S' : σ} (hs : (w S).set q0 (a, .inl ((zx_K X).2.2.1, N, .inl (fun j => nI (updN f k v j)))) = w S') (hd : decode cc pc = .ok (.bastore, 1)) (kk : zG X w nL S' lv (pc + 1) st) : zG X w nL S lv pc (.int (nI v) :: .int (nI k) :: .ref a :: st) := by
  intro H locs ls hP hD hS hl
  refine va_zast hc.1.1 hc.1.2.1 hc.2.2.1 hP hD hS q0 1 he rfl (vp_in_nI hk hN) hd (fun H1 locs1 hP1 hD1 hS1 => ?_)
  rw [nI_clamp (Nat.lt_trans hk hN), nar_z v hv, upd_nI, hs] at hP1 hD1
  exact kk H1 locs1 ls hP1 hD1 hS1 hl
theorem z_iast {q0 N a : Nat} {f : Nat → Nat} {k v : Nat} (hc : zC X cc nL own R) (he : (w S)[q0]? = some (a, .inl ((zx_K X).2.2.2.2, N, .inl (fun j => nI (f j))))) (hk : k < N) (hN : N < 2 ^ 31)  {S' : σ} (hs : (w S).set q0 (a, .inl ((zx_K X).2.2.2.2, N, .inl (fun j => nI (updN f k v j)))) = w S') (hd : decode cc pc = .ok (.iastore, 1)) (kk : zG X w nL S' lv (pc + 1) st) : zG X w nL S lv pc (.int (nI v) :: .int (nI k) :: .ref a :: st) := by
  intro H locs ls hP hD hS hl
  refine va_iast hc.1.1 hc.1.2.1 hc.2.2.1 hP hD hS q0 3 he rfl (vp_in_nI hk hN) hd (fun H1 locs1 hP1 hD1 hS1 => ?_)
  rw [nI_clamp (Nat.lt_trans hk hN), upd_nI, hs] at hP1 hD1
  exact kk H1 locs1 ls hP1 hD1 hS1 hl
theorem z_last {q0 N a : Nat} {f : Nat → Nat} {k v : Nat} (hc : zC X cc nL own R) (he : (w S)[q0]? = some (a, .inl ((zx_K X).2.2.2.1, N, .inr (.inl (fun j => lN (f j)))))) (hk : k < N) (hN : N < 2 ^ 31) {S' : σ} (hs : (w S).set q0 (a, .inl ((zx_K X).2.2.2.1, N, .inr (.inl (fun j => lN (updN f k v j))))) = w S') (hd : decode cc pc = .ok (.lastore, 1)) (kk : zG X w nL S' lv (pc + 1) st) : zG X w nL S lv pc (.long (lN v) :: .int (nI k) :: .ref a :: st) := by
  intro H locs ls hP hD hS hl
  refine va_last hc.1.1 hc.1.2.1 hc.2.2.1 hP hD hS q0 2 he rfl (vp_in_nI hk hN) hd (fun H1 locs1 hP1 hD1 hS1 => ?_)
  rw [nI_clamp (Nat.lt_trans hk hN), upd_lN, hs] at hP1 hD1
  exact kk H1 locs1 ls hP1 hD1 hS1 hl
end ROWS
/-! the two classes' worlds: array i of the object is cell i of the list, at q i; the engine's number 'present' is S 0 0 -/
abbrev eF (q : Nat → Nat) (S : ES) : List Value := [.int (nI (S 0 0)), .ref (q 1), .ref (q 2), .ref (q 3), .ref (q 4), .ref (q 5), .ref (q 6), .ref (q 7), .ref (q 8), .ref (q 9), .ref (q 10), .ref (q 11), .ref (q 12)]
def eW (K : zK) (q : Nat → Nat) (S : ES) : va_W := [(q 0, .inr (0, eF q S)), (q 1, .inl (K.2.1, 7, .inl (fun j => nI (S 1 j)))), (q 2, .inl (K.2.1, 7, .inl (fun j => nI (S 2 j)))), (q 3, .inl (K.2.1, 7, .inl (fun j => nI (S 3 j)))), (q 4, .inl (K.2.1, 3, .inl (fun j => nI (S 4 j)))), (q 5, .inl (K.2.1, 9, .inl (fun j => nI (S 5 j)))), (q 6, .inl (K.2.1, 9, .inl (fun j => nI (S 6 j)))), (q 7, .inl (K.2.1, 9, .inl (fun j => nI (S 7 j)))), (q 8, .inl (K.2.2.1, 9, .inl (fun j => nI (S 8 j)))), (q 9, .inl (K.2.2.2.1, 33, .inr (.inl (fun j => lN (S 9 j))))), (q 10, .inl (K.2.2.2.1, 33, .inr (.inl (fun j => lN (S 10 j))))), (q 11, .inl (K.2.1, 3, .inl (fun j => nI (S 11 j)))), (q 12, .inl (K.2.1, 3, .inl (fun j => nI (S 12 j))))]
abbrev mF (q : Nat → Nat) : List Value := [.ref (q 1), .ref (q 2), .ref (q 3), .ref (q 4), .ref (q 5), .ref (q 6), .ref (q 7)]
def mW (K : zK) (q : Nat → Nat) (S : ES) : va_W := [(q 0, .inr (1, mF q)), (q 1, .inl (K.2.2.1, 7, .inl (fun j => nI (S 1 j)))), (q 2, .inl (K.2.2.2.2, 7, .inl (fun j => nI (S 2 j)))), (q 3, .inl (K.2.2.2.2, 7, .inl (fun j => nI (S 3 j)))), (q 4, .inl (K.2.2.2.2, 7, .inl (fun j => nI (S 4 j)))), (q 5, .inl (K.2.2.2.2, 3, .inl (fun j => nI (S 5 j)))), (q 6, .inl (K.2.2.2.2, 9, .inl (fun j => nI (S 6 j)))), (q 7, .inl (K.2.2.2.2, 3, .inl (fun j => nI (S 7 j))))]
theorem eW_set1 (K : zK) (q : Nat → Nat) (S : ES) (k v : Nat) : (eW K q S).set 1 (q 1, .inl (K.2.1, 7, .inl (fun j => nI (updN (S 1) k v j)))) = eW K q (up2 S 1 k v) := rfl
theorem eW_set2 (K : zK) (q : Nat → Nat) (S : ES) (k v : Nat) : (eW K q S).set 2 (q 2, .inl (K.2.1, 7, .inl (fun j => nI (updN (S 2) k v j)))) = eW K q (up2 S 2 k v) := rfl
theorem eW_set3 (K : zK) (q : Nat → Nat) (S : ES) (k v : Nat) : (eW K q S).set 3 (q 3, .inl (K.2.1, 7, .inl (fun j => nI (updN (S 3) k v j)))) = eW K q (up2 S 3 k v) := rfl
theorem eW_set4 (K : zK) (q : Nat → Nat) (S : ES) (k v : Nat) : (eW K q S).set 4 (q 4, .inl (K.2.1, 3, .inl (fun j => nI (updN (S 4) k v j)))) = eW K q (up2 S 4 k v) := rfl
theorem eW_set5 (K : zK) (q : Nat → Nat) (S : ES) (k v : Nat) : (eW K q S).set 5 (q 5, .inl (K.2.1, 9, .inl (fun j => nI (updN (S 5) k v j)))) = eW K q (up2 S 5 k v) := rfl
theorem eW_set6 (K : zK) (q : Nat → Nat) (S : ES) (k v : Nat) : (eW K q S).set 6 (q 6, .inl (K.2.1, 9, .inl (fun j => nI (updN (S 6) k v j)))) = eW K q (up2 S 6 k v) := rfl
theorem eW_set7 (K : zK) (q : Nat → Nat) (S : ES) (k v : Nat) : (eW K q S).set 7 (q 7, .inl (K.2.1, 9, .inl (fun j => nI (updN (S 7) k v j)))) = eW K q (up2 S 7 k v) := rfl
theorem eW_set8 (K : zK) (q : Nat → Nat) (S : ES) (k v : Nat) : (eW K q S).set 8 (q 8, .inl (K.2.2.1, 9, .inl (fun j => nI (updN (S 8) k v j)))) = eW K q (up2 S 8 k v) := rfl
theorem eW_set9 (K : zK) (q : Nat → Nat) (S : ES) (k v : Nat) : (eW K q S).set 9 (q 9, .inl (K.2.2.2.1, 33, .inr (.inl (fun j => lN (updN (S 9) k v j))))) = eW K q (up2 S 9 k v) := rfl
theorem eW_set10 (K : zK) (q : Nat → Nat) (S : ES) (k v : Nat) : (eW K q S).set 10 (q 10, .inl (K.2.2.2.1, 33, .inr (.inl (fun j => lN (updN (S 10) k v j))))) = eW K q (up2 S 10 k v) := rfl
theorem eW_set11 (K : zK) (q : Nat → Nat) (S : ES) (k v : Nat) : (eW K q S).set 11 (q 11, .inl (K.2.1, 3, .inl (fun j => nI (updN (S 11) k v j)))) = eW K q (up2 S 11 k v) := rfl
theorem eW_set12 (K : zK) (q : Nat → Nat) (S : ES) (k v : Nat) : (eW K q S).set 12 (q 12, .inl (K.2.1, 3, .inl (fun j => nI (updN (S 12) k v j)))) = eW K q (up2 S 12 k v) := rfl
theorem mW_set1 (K : zK) (q : Nat → Nat) (S : ES) (k v : Nat) : (mW K q S).set 1 (q 1, .inl (K.2.2.1, 7, .inl (fun j => nI (updN (S 1) k v j)))) = mW K q (up2 S 1 k v) := rfl
theorem mW_set2 (K : zK) (q : Nat → Nat) (S : ES) (k v : Nat) : (mW K q S).set 2 (q 2, .inl (K.2.2.2.2, 7, .inl (fun j => nI (updN (S 2) k v j)))) = mW K q (up2 S 2 k v) := rfl
theorem mW_set3 (K : zK) (q : Nat → Nat) (S : ES) (k v : Nat) : (mW K q S).set 3 (q 3, .inl (K.2.2.2.2, 7, .inl (fun j => nI (updN (S 3) k v j)))) = mW K q (up2 S 3 k v) := rfl
theorem mW_set4 (K : zK) (q : Nat → Nat) (S : ES) (k v : Nat) : (mW K q S).set 4 (q 4, .inl (K.2.2.2.2, 7, .inl (fun j => nI (updN (S 4) k v j)))) = mW K q (up2 S 4 k v) := rfl
theorem mW_set5 (K : zK) (q : Nat → Nat) (S : ES) (k v : Nat) : (mW K q S).set 5 (q 5, .inl (K.2.2.2.2, 3, .inl (fun j => nI (updN (S 5) k v j)))) = mW K q (up2 S 5 k v) := rfl
theorem mW_set6 (K : zK) (q : Nat → Nat) (S : ES) (k v : Nat) : (mW K q S).set 6 (q 6, .inl (K.2.2.2.2, 9, .inl (fun j => nI (updN (S 6) k v j)))) = mW K q (up2 S 6 k v) := rfl
theorem mW_set7 (K : zK) (q : Nat → Nat) (S : ES) (k v : Nat) : (mW K q S).set 7 (q 7, .inl (K.2.2.2.2, 3, .inl (fun j => nI (updN (S 7) k v j)))) = mW K q (up2 S 7 k v) := rfl
theorem eW_set0 (K : zK) (q : Nat → Nat) (S : ES) (v : Nat) : (eW K q S).set 0 (q 0, .inr (0, (eF q S).set 0 (.int (nI v)))) = eW K q (up2 S 0 0 v) := rfl
section FLD
variable {X : zX} {nL : Nat} {R : Room} {cc : ByteArray} {S : ES} {lv : List (Nat × Value)} {pc : Nat} {st : List Value} {q : Nat → Nat}
theorem z_eget {index : Nat} {v : Value} (hc : zC X cc nL RX0 R) (k : Nat) (hk : k < 13) (hlink : Cond.fieldLink RX0 index (TX0 k).1 (TX0 k).2.1 (TX0 k).2.2.1 ∈ lw_all) (hv : (eF q S)[k]? = some v) (hd : decode cc pc = .ok (.getfield index, 3)) (kk : zG X (eW (zx_K X) q) nL S lv (pc + 3) (v :: st)) : zG X (eW (zx_K X) q) nL S lv pc (.ref (q 0) :: st) := z_get (ci := 0) (q0 := 0) (fs := eF q S) hc in_X0 rfl rfl k hk hlink hv hd kk
theorem z_mget {index : Nat} {v : Value} (hc : zC X cc nL RX1 R) (k : Nat) (hk : k < 7) (hlink : Cond.fieldLink RX1 index (TX1 k).1 (TX1 k).2.1 (TX1 k).2.2.1 ∈ lw_all) (hv : (mF q)[k]? = some v) (hd : decode cc pc = .ok (.getfield index, 3)) (kk : zG X (mW (zx_K X) q) nL S lv (pc + 3) (v :: st)) : zG X (mW (zx_K X) q) nL S lv pc (.ref (q 0) :: st) := z_get (ci := 1) (q0 := 0) (fs := mF q) hc in_X1 rfl rfl k hk hlink hv hd kk
theorem z_eput {index v : Nat} (hc : zC X cc nL RX0 R) (hlink : Cond.fieldLink RX0 index (TX0 0).1 (TX0 0).2.1 (TX0 0).2.2.1 ∈ lw_all) (hd : decode cc pc = .ok (.putfield index, 3)) (kk : zG X (eW (zx_K X) q) nL (up2 S 0 0 v) lv (pc + 3) st) : zG X (eW (zx_K X) q) nL S lv pc (.int (nI v) :: .ref (q 0) :: st) := by
  intro H locs ls hP hD hS hl
  refine va_put (ci := 0) (C := RX0) (T := TX0) (N := 13) (fs := eF q S) (ty := .int) hc.1.1 hc.1.2.1 hc.1.2.2.2.2 in_X0 tyX0 tyX0_ok nmX0 hc.1.2.2.2.1 hc.2.2.1 hP hD hS 0 rfl rfl 0 (by decide) (hc.1.2.2.2.2 _ hlink) (fun _ h => h) rfl (by decide +kernel) rfl rfl (Nat.zero_lt_succ _) hd (fun H1 locs1 hP1 hD1 hS1 => ?_)
  rw [eW_set0] at hP1 hD1
  exact kk H1 locs1 ls hP1 hD1 hS1 hl
end FLD
end
section
/-! PLAIN: what the engine's methods compute, as functions of its state S (arrays: 1 kinds, 2 as, 3 bs, 4 sizes, 5 wantedKind, 6 wantedA, 7 wantedB, 8 negated, 9 words, 10 before, 11 bound, 12 tentative; S 0 0 present) -/
set_option maxRecDepth 100000
theorem pow8 (i : Nat) : 2 ^ (3 * i) = 8 ^ i := by rw [Nat.pow_mul]
def isR (x : Int32) : Bool := decide (0 ≤ x.toInt ∧ x.toInt < 3)
def fOk (x y z : Int32) : Bool := decide (0 ≤ x.toInt ∧ x.toInt ≤ 2 ∧ 0 ≤ y.toInt ∧ y.toInt ≤ 3 ∧ 0 ≤ z.toInt ∧ z.toInt ≤ 3)
def conB (d v : Nat) : Bool := decide (4 ≤ d ∨ d = v)
def hsN (S : ES) (g : Nat) : Bool := (S 0 0).testBit g
def hasI (S : ES) (x : Int32) : Bool := decide (0 ≤ x.toInt ∧ x.toInt < 7) && (S 0 0).testBit x.toInt.toNat
def wix (a b c : Nat) : Nat := a * 11 + b + c / 64
def bitW (f : Nat → Nat) (a b c : Nat) : Bool := (f (wix a b c)).testBit (c % 64)
def putW (f : Nat → Nat) (a b c : Nat) : Nat → Nat := updN f (wix a b c) (f (wix a b c) ||| 2 ^ (c % 64))
def dig (code i : Nat) : Nat := code / 8 ^ i % 8
def nxc (code level g : Nat) : Nat := code ||| g * 8 ^ level
def holP (code f : Nat) : Nat → Bool
  | 0 => false
  | n + 1 => holP code f n || decide (dig code n = f)
/-- the bounds of the engine's cells -/
def eB (i : Nat) : Nat := match i with
  | 0 => 128
  | 1 => 3
  | 2 => 4
  | 3 => 4
  | 4 => 4
  | 5 => 3
  | 6 => 8
  | 7 => 8
  | 8 => 2
  | 9 => 2 ^ 64
  | 10 => 2 ^ 64
  | _ => 5
def eOK (S : ES) : Prop := ∀ i j, S i j < eB i
theorem eOK.up {S : ES} (h : eOK S) (i k : Nat) {v : Nat} (hv : v < eB i) : eOK (up2 S i k v) := by
  intro i' j
  unfold up2
  by_cases e : i' = i
  · rw [if_pos e]
    subst e
    unfold updN
    by_cases e2 : j = k
    · rw [if_pos e2]; exact hv
    · rw [if_neg e2]; exact h i' j
  · rw [if_neg e]; exact h i' j
/-- three variables' values -/
abbrev E3 : Type := Nat × Nat × Nat
def e3g (e : E3) (x : Nat) : Nat := match x with
  | 0 => e.1
  | 1 => e.2.1
  | _ => e.2.2
def e3s (e : E3) (x v : Nat) : E3 := match x with
  | 0 => (v, e.2.1, e.2.2)
  | 1 => (e.1, v, e.2.2)
  | _ => (e.1, e.2.1, v)
def eb (f : Nat → Nat) : E3 := (f 0, f 1, f 2)
theorem e3g_eb (f : Nat → Nat) {x : Nat} (h : x < 3) : e3g (eb f) x = f x := by
  rcases (show x = 0 ∨ x = 1 ∨ x = 2 by omega) with rfl | rfl | rfl <;> rfl
theorem eb_up (f : Nat → Nat) {x : Nat} (v : Nat) (h : x < 3) : eb (updN f x v) = e3s (eb f) x v := by
  rcases (show x = 0 ∨ x = 1 ∨ x = 2 by omega) with rfl | rfl | rfl <;> rfl
/-- meets -/
def meP (e : E3) (d v : Nat) : Bool × E3 := if d < 4 ∨ d = 7 then (decide (d = 7 ∨ d = v), e) else if e3g e (d - 4) = 4 then (true, e3s e (d - 4) v) else (decide (e3g e (d - 4) = v), e)
/-- fits: the answer, and the variables behind it -/
def fiP (S : ES) (e : E3) (cell f : Nat) : Bool × E3 := if S 1 f = S 5 cell then (if (meP e (S 6 cell) (S 2 f)).1 = true then meP (meP e (S 6 cell) (S 2 f)).2 (S 7 cell) (S 3 f) else (false, (meP e (S 6 cell) (S 2 f)).2)) else (false, e)
/-- bindAlong -/
def bnP (S : ES) (r code : Nat) : Nat → E3
  | 0 => (4, 4, 4)
  | i + 1 => if dig code i = 7 then bnP S r code i else if (fiP S (bnP S r code i) (r * 3 + i) (dig code i)).1 = true then (fiP S (bnP S r code i) (r * 3 + i) (dig code i)).2 else bnP S r code i
/-- anyFits, of the first n facts -/
def anP (S : ES) (e : E3) (cell : Nat) : Nat → Bool
  | 0 => false
  | n + 1 => anP S e cell n || (hsN S n && (fiP S e cell n).1)
/-- extendNegated: open -/
def exN (S : ES) (Bf : Nat → Nat) (e : E3) (r level code : Nat) (old : Bool) (f : Nat) (added : Bool) : Bool :=
  if (old && !(fiP S e (r * 3 + level) f).1) = true then old && bitW Bf r (level + 1) (nxc code level 7) else if (old && added) = true then false else !(anP S e (r * 3 + level) 7)
/-- extend: whether fact g goes on -/
def exP (S : ES) (Bf : Nat → Nat) (e : E3) (r level code : Nat) (old : Bool) (f : Int) (g : Nat) : Bool :=
  (old && !(decide ((g : Int) = f)) && bitW Bf r (level + 1) (nxc code level g)) || ((hsN S g && (!old || decide ((g : Int) = f))) && (fiP S e (r * 3 + level) g).1)
def exL (S : ES) (Bf : Nat → Nat) (e : E3) (r level code : Nat) (old : Bool) (f : Int) (W : Nat → Nat) : Nat → (Nat → Nat)
  | 0 => W
  | n + 1 => if exP S Bf e r level code old f n = true then putW (exL S Bf e r level code old f W n) r (level + 1) (nxc code level n) else exL S Bf e r level code old f W n
/-- extend: the words behind it -/
def exW (S : ES) (Bf : Nat → Nat) (r level code : Nat) (f : Int) (added : Bool) (W : Nat → Nat) : Nat → Nat :=
  if S 8 (r * 3 + level) = 0 then exL S Bf (bnP S r code level) r level code (bitW Bf r level code) f W 7
  else if exN S Bf (bnP S r code level) r level code (bitW Bf r level code) f.toNat added = true then putW W r (level + 1) (nxc code level 7) else W
def upC (S : ES) (Bf : Nat → Nat) (r level : Nat) (f : Int) (added : Bool) (W : Nat → Nat) : Nat → (Nat → Nat)
  | 0 => W
  | n + 1 => if bitW (upC S Bf r level f added W n) r level n = true then exW S Bf r level n f added (upC S Bf r level f added W n) else upC S Bf r level f added W n
def upL (S : ES) (Bf : Nat → Nat) (r : Nat) (f : Int) (added : Bool) (W : Nat → Nat) : Nat → (Nat → Nat)
  | 0 => W
  | n + 1 => upC S Bf r n f added (upL S Bf r f added W n) (8 ^ n)
/-- the words of rule r cleared up to k, and all but its first -/
def clr9 (W : Nat → Nat) (r k : Nat) : Nat → Nat := fun j => if r * 11 ≤ j ∧ j < r * 11 + k then 0 else W j
def bf10 (W : Nat → Nat) (r : Nat) (f : Int) : Nat → Nat := fun j => if f < 0 then 0 else if j = r * 11 then 1 else W j
/-- update: the words behind it -/
def up9 (S : ES) (r : Nat) (f : Int) (added : Bool) : Nat → Nat := upL S (bf10 (S 9) r f) r f added (updN (clr9 (S 9) r 11) (r * 11) 1) (S 4 r)
/-- a loop with an index that goes up to N -/
theorem z_loop {τ : Type} (Nn : Nat) (I P : Nat → τ → Prop) (step : ∀ j t, j ≤ Nn → I j t → (j < Nn → ∀ t', I (j + 1) t' → P (j + 1) t') → P j t) : ∀ j t, j ≤ Nn → I j t → P j t := by
  have key : ∀ n j t, j + n = Nn → I j t → P j t := by
    intro n
    induction n with
    | zero =>
      intro j t hj hI
      exact step j t (by omega) hI (fun h => absurd h (by omega))
    | succ n ih =>
      intro j t hj hI
      exact step j t (by omega) hI (fun _ t' h' => ih (j + 1) t' (by omega) h')
  intro j t hj hI
  exact key (Nn - j) j t (by omega) hI
/-- the state but for the arrays of the variables -/
def eqx (S S' : ES) : Prop := ∀ i, i < 11 → S' i = S i
theorem eqx.rf {S : ES} : eqx S S := fun _ _ => rfl
theorem eqx.tr {S S1 S2 : ES} (h1 : eqx S S1) (h2 : eqx S1 S2) : eqx S S2 := fun i hi => (h2 i hi).trans (h1 i hi)
theorem eqx.up {S S1 : ES} (h : eqx S S1) {i k v : Nat} (hi : 11 ≤ i) : eqx S (up2 S1 i k v) := fun j hj => (up2_n (by omega)).trans (h j hj)
theorem fiP_c {S S' : ES} (h : ∀ i, i < 9 → S' i = S i) (e : E3) (cell f : Nat) : fiP S' e cell f = fiP S e cell f := by
  unfold fiP
  rw [h 1 (by decide), h 2 (by decide), h 3 (by decide), h 5 (by decide), h 6 (by decide), h 7 (by decide)]
theorem hsN_c {S S' : ES} (h : ∀ i, i < 9 → S' i = S i) (g : Nat) : hsN S' g = hsN S g := by
  unfold hsN
  rw [h 0 (by decide)]
theorem anP_c {S S' : ES} (h : ∀ i, i < 9 → S' i = S i) (e : E3) (cell : Nat) : ∀ n, anP S' e cell n = anP S e cell n
  | 0 => rfl
  | n + 1 => by
    unfold anP
    rw [anP_c h e cell n, hsN_c h, fiP_c h]
theorem bnP_c {S S' : ES} (h : ∀ i, i < 9 → S' i = S i) (r code : Nat) : ∀ n, bnP S' r code n = bnP S r code n
  | 0 => rfl
  | n + 1 => by
    unfold bnP
    rw [bnP_c h r code n, fiP_c h]
theorem eqx.lo {S S' : ES} (h : eqx S S') : ∀ i, i < 9 → S' i = S i := fun i hi => h i (by omega)
/-- bounds of the plain functions -/
theorem dig_lt (c i : Nat) : dig c i < 8 := Nat.mod_lt _ (by decide)
theorem meP_ok {e : E3} {d v : Nat} (he : e.1 < 5 ∧ e.2.1 < 5 ∧ e.2.2 < 5) (hv : v < 5) : (meP e d v).2.1 < 5 ∧ (meP e d v).2.2.1 < 5 ∧ (meP e d v).2.2.2 < 5 := by
  unfold meP
  split
  · exact he
  · split
    · unfold e3s
      split
      · exact ⟨hv, he.2.1, he.2.2⟩
      · exact ⟨he.1, hv, he.2.2⟩
      · exact ⟨he.1, he.2.1, hv⟩
    · exact he
theorem nxc_add {code level g : Nat} (h : code < 8 ^ level) : nxc code level g = code + g * 8 ^ level := by
  unfold nxc
  have h2 : code < 2 ^ (3 * level) := by rw [pow8]; exact h
  have := Nat.two_pow_add_eq_or_of_lt h2 g
  rw [pow8] at this
  rw [Nat.or_comm, Nat.mul_comm g, ← this, Nat.add_comm]
theorem p8_le {L : Nat} (h : L ≤ 3) : 8 ^ L ≤ 512 := by
  rcases (show L = 0 ∨ L = 1 ∨ L = 2 ∨ L = 3 by omega) with rfl | rfl | rfl | rfl <;> decide
theorem p8_s (L : Nat) : 8 ^ (L + 1) = 8 * 8 ^ L := by rw [Nat.pow_succ, Nat.mul_comm]
theorem nxc_lt {code level g : Nat} (h : code < 8 ^ level) (hg : g < 8) : nxc code level g < 8 ^ (level + 1) := by
  rw [nxc_add h, p8_s]
  have : g * 8 ^ level ≤ 7 * 8 ^ level := Nat.mul_le_mul_right _ (by omega)
  omega
theorem hasI_n {S : ES} {g : Nat} (h : g < 7) : hasI S (nI g) = hsN S g := by
  unfold hasI hsN
  rw [toInt_nI (by omega), Int.toNat_natCast]
  simp
  omega
end
section
/-! the engine's leaves: walks printed by w11.py -/
set_option maxRecDepth 100000
theorem gX0_wordOf : GoodIn lw_all (va_wsS RX0 52 yX0_wordOf (ws_ yX0_wordOf cX0_wordOf 3 (some .int))) := lw_S q92 q93 q21 q94
theorem aX0_wordOf : yX0_wordOf.cls ≠ "java/lang/invoke/MethodHandle" ∧ yX0_wordOf.cls ≠ "java/lang/invoke/VarHandle" ∧ (parseMethodDescriptor yX0_wordOf.desc).map (fun d => d.parameters.length) = some 3 := by decide +kernel
theorem gX0_constant : GoodIn lw_all (va_wsS RX0 56 yX0_constant (ws_ yX0_constant cX0_constant 2 (some .boolean))) := lw_S q182 q183 q21 q184
theorem aX0_constant : yX0_constant.cls ≠ "java/lang/invoke/MethodHandle" ∧ yX0_constant.cls ≠ "java/lang/invoke/VarHandle" ∧ (parseMethodDescriptor yX0_constant.desc).map (fun d => d.parameters.length) = some 2 := by decide +kernel
theorem gX0_meets : GoodIn lw_all (wsV RX0 60 RX0 yX0_meets (ws_ yX0_meets cX0_meets 4 (some .boolean))) := lw_V q111 q113 qs6 q21 q114
theorem aX0_meets : yX0_meets.cls = RX0 ∧ yX0_meets.cls ≠ "java/lang/invoke/MethodHandle" ∧ yX0_meets.cls ≠ "java/lang/invoke/VarHandle" ∧ (parseMethodDescriptor yX0_meets.desc).map (fun d => d.parameters.length) = some 2 := by decide +kernel
theorem gX0_fits : GoodIn lw_all (wsV RX0 63 RX0 yX0_fits (ws_ yX0_fits cX0_fits 6 (some .boolean))) := lw_V q107 q109 qs5 q21 q110
theorem aX0_fits : yX0_fits.cls = RX0 ∧ yX0_fits.cls ≠ "java/lang/invoke/MethodHandle" ∧ yX0_fits.cls ≠ "java/lang/invoke/VarHandle" ∧ (parseMethodDescriptor yX0_fits.desc).map (fun d => d.parameters.length) = some 3 := by decide +kernel
theorem gX0_codes : GoodIn lw_all (va_wsS RX0 67 yX0_codes (ws_ yX0_codes cX0_codes 1 (some .int))) := lw_S q85 q86 q21 q87
theorem aX0_codes : yX0_codes.cls ≠ "java/lang/invoke/MethodHandle" ∧ yX0_codes.cls ≠ "java/lang/invoke/VarHandle" ∧ (parseMethodDescriptor yX0_codes.desc).map (fun d => d.parameters.length) = some 1 := by decide +kernel
theorem gX0_isIn : GoodIn lw_all (wsV RX0 71 RX0 yX0_isIn (ws_ yX0_isIn cX0_isIn 5 (some .boolean))) := lw_V q88 q90 qs1 q21 q91
theorem aX0_isIn : yX0_isIn.cls = RX0 ∧ yX0_isIn.cls ≠ "java/lang/invoke/MethodHandle" ∧ yX0_isIn.cls ≠ "java/lang/invoke/VarHandle" ∧ (parseMethodDescriptor yX0_isIn.desc).map (fun d => d.parameters.length) = some 3 := by decide +kernel
theorem gX0_extend : GoodIn lw_all (wsV RX0 75 RX0 yX0_extend (ws_ yX0_extend cX0_extend 12 none)) := lw_V q95 q97 qs2 q21 q98
theorem aX0_extend : yX0_extend.cls = RX0 ∧ yX0_extend.cls ≠ "java/lang/invoke/MethodHandle" ∧ yX0_extend.cls ≠ "java/lang/invoke/VarHandle" ∧ (parseMethodDescriptor yX0_extend.desc).map (fun d => d.parameters.length) = some 5 := by decide +kernel
theorem gX0_wasIn : GoodIn lw_all (wsV RX0 79 RX0 yX0_wasIn (ws_ yX0_wasIn cX0_wasIn 5 (some .boolean))) := lw_V q99 q101 qs3 q21 q102
theorem aX0_wasIn : yX0_wasIn.cls = RX0 ∧ yX0_wasIn.cls ≠ "java/lang/invoke/MethodHandle" ∧ yX0_wasIn.cls ≠ "java/lang/invoke/VarHandle" ∧ (parseMethodDescriptor yX0_wasIn.desc).map (fun d => d.parameters.length) = some 3 := by decide +kernel
theorem gX0_bindAlong : GoodIn lw_all (wsV RX0 82 RX0 yX0_bindAlong (ws_ yX0_bindAlong cX0_bindAlong 6 none)) := lw_V q103 q105 qs4 q21 q106
theorem aX0_bindAlong : yX0_bindAlong.cls = RX0 ∧ yX0_bindAlong.cls ≠ "java/lang/invoke/MethodHandle" ∧ yX0_bindAlong.cls ≠ "java/lang/invoke/VarHandle" ∧ (parseMethodDescriptor yX0_bindAlong.desc).map (fun d => d.parameters.length) = some 3 := by decide +kernel
theorem gX0_extendNegated : GoodIn lw_all (wsV RX0 86 RX0 yX0_extendNegated (ws_ yX0_extendNegated cX0_extendNegated 11 none)) := lw_V q115 q117 qs7 q21 q118
theorem aX0_extendNegated : yX0_extendNegated.cls = RX0 ∧ yX0_extendNegated.cls ≠ "java/lang/invoke/MethodHandle" ∧ yX0_extendNegated.cls ≠ "java/lang/invoke/VarHandle" ∧ (parseMethodDescriptor yX0_extendNegated.desc).map (fun d => d.parameters.length) = some 6 := by decide +kernel
theorem gX0_has : GoodIn lw_all (wsV RX0 90 RX0 yX0_has (ws_ yX0_has cX0_has 2 (some .boolean))) := lw_V q123 q125 qs9 q21 q126
theorem aX0_has : yX0_has.cls = RX0 ∧ yX0_has.cls ≠ "java/lang/invoke/MethodHandle" ∧ yX0_has.cls ≠ "java/lang/invoke/VarHandle" ∧ (parseMethodDescriptor yX0_has.desc).map (fun d => d.parameters.length) = some 1 := by decide +kernel
theorem gX0_put : GoodIn lw_all (wsV RX0 94 RX0 yX0_put (ws_ yX0_put cX0_put 5 none)) := lw_V q127 q129 qs10 q21 q130
theorem aX0_put : yX0_put.cls = RX0 ∧ yX0_put.cls ≠ "java/lang/invoke/MethodHandle" ∧ yX0_put.cls ≠ "java/lang/invoke/VarHandle" ∧ (parseMethodDescriptor yX0_put.desc).map (fun d => d.parameters.length) = some 3 := by decide +kernel
theorem gX0_anyFits : GoodIn lw_all (wsV RX0 97 RX0 yX0_anyFits (ws_ yX0_anyFits cX0_anyFits 3 (some .boolean))) := lw_V q119 q121 qs8 q21 q122
theorem aX0_anyFits : yX0_anyFits.cls = RX0 ∧ yX0_anyFits.cls ≠ "java/lang/invoke/MethodHandle" ∧ yX0_anyFits.cls ≠ "java/lang/invoke/VarHandle" ∧ (parseMethodDescriptor yX0_anyFits.desc).map (fun d => d.parameters.length) = some 1 := by decide +kernel
theorem gX0_isRule : GoodIn lw_all (va_wsS RX0 100 yX0_isRule (ws_ yX0_isRule cX0_isRule 1 (some .boolean))) := lw_S q78 q79 q21 q80
theorem aX0_isRule : yX0_isRule.cls ≠ "java/lang/invoke/MethodHandle" ∧ yX0_isRule.cls ≠ "java/lang/invoke/VarHandle" ∧ (parseMethodDescriptor yX0_isRule.desc).map (fun d => d.parameters.length) = some 1 := by decide +kernel
theorem gX0_update : GoodIn lw_all (wsV RX0 103 RX0 yX0_update (ws_ yX0_update cX0_update 6 none)) := lw_V q81 q83 qs0 q21 q84
theorem aX0_update : yX0_update.cls = RX0 ∧ yX0_update.cls ≠ "java/lang/invoke/MethodHandle" ∧ yX0_update.cls ≠ "java/lang/invoke/VarHandle" ∧ (parseMethodDescriptor yX0_update.desc).map (fun d => d.parameters.length) = some 3 := by decide +kernel
theorem gX0_factOk : GoodIn lw_all (va_wsS RX0 107 yX0_factOk (ws_ yX0_factOk cX0_factOk 3 (some .boolean))) := lw_S q139 q140 q21 q141
theorem aX0_factOk : yX0_factOk.cls ≠ "java/lang/invoke/MethodHandle" ∧ yX0_factOk.cls ≠ "java/lang/invoke/VarHandle" ∧ (parseMethodDescriptor yX0_factOk.desc).map (fun d => d.parameters.length) = some 3 := by decide +kernel
theorem gX0_countAt : GoodIn lw_all (wsV RX0 110 RX0 yX0_countAt (ws_ yX0_countAt cX0_countAt 5 (some .int))) := lw_V q154 q156 qs11 q21 q157
theorem aX0_countAt : yX0_countAt.cls = RX0 ∧ yX0_countAt.cls ≠ "java/lang/invoke/MethodHandle" ∧ yX0_countAt.cls ≠ "java/lang/invoke/VarHandle" ∧ (parseMethodDescriptor yX0_countAt.desc).map (fun d => d.parameters.length) = some 2 := by decide +kernel
theorem gX0_matches : GoodIn lw_all (wsV RX0 114 RX0 yX0_matches (ws_ yX0_matches cX0_matches 2 (some .int))) := lw_V q166 q151 q152 q21 q153
theorem aX0_matches : yX0_matches.cls = RX0 ∧ yX0_matches.cls ≠ "java/lang/invoke/MethodHandle" ∧ yX0_matches.cls ≠ "java/lang/invoke/VarHandle" ∧ (parseMethodDescriptor yX0_matches.desc).map (fun d => d.parameters.length) = some 1 := by decide +kernel
theorem gX0_holds : GoodIn lw_all (va_wsS RX0 117 yX0_holds (ws_ yX0_holds cX0_holds 4 (some .boolean))) := lw_S q171 q172 q21 q173
theorem aX0_holds : yX0_holds.cls ≠ "java/lang/invoke/MethodHandle" ∧ yX0_holds.cls ≠ "java/lang/invoke/VarHandle" ∧ (parseMethodDescriptor yX0_holds.desc).map (fun d => d.parameters.length) = some 3 := by decide +kernel
theorem gX0_looksRight : GoodIn lw_all (wsV RX0 120 RX0 yX0_looksRight (ws_ yX0_looksRight cX0_looksRight 3 (some .boolean))) := lw_V q178 q180 qs12 q21 q181
theorem aX0_looksRight : yX0_looksRight.cls = RX0 ∧ yX0_looksRight.cls ≠ "java/lang/invoke/MethodHandle" ∧ yX0_looksRight.cls ≠ "java/lang/invoke/VarHandle" ∧ (parseMethodDescriptor yX0_looksRight.desc).map (fun d => d.parameters.length) = some 2 := by decide +kernel
theorem gX0_add : GoodIn lw_all (wsV RX0 123 RX0 yX0_add (ws_ yX0_add cX0_add 6 (some .int))) := lw_V q193 q136 q137 q21 q138
theorem aX0_add : yX0_add.cls = RX0 ∧ yX0_add.cls ≠ "java/lang/invoke/MethodHandle" ∧ yX0_add.cls ≠ "java/lang/invoke/VarHandle" ∧ (parseMethodDescriptor yX0_add.desc).map (fun d => d.parameters.length) = some 3 := by decide +kernel
theorem gX0_remove : GoodIn lw_all (wsV RX0 126 RX0 yX0_remove (ws_ yX0_remove cX0_remove 3 (some .boolean))) := lw_V q194 q143 q144 q21 q145
theorem aX0_remove : yX0_remove.cls = RX0 ∧ yX0_remove.cls ≠ "java/lang/invoke/MethodHandle" ∧ yX0_remove.cls ≠ "java/lang/invoke/VarHandle" ∧ (parseMethodDescriptor yX0_remove.desc).map (fun d => d.parameters.length) = some 1 := by decide +kernel
theorem gX1_rule : GoodIn lw_all (wsV RX1 32 RX1 yX1_rule (ws_ yX1_rule cX1_rule 2 (some .boolean))) := lw_V q228 q230 qs13 q22 q231
theorem aX1_rule : yX1_rule.cls = RX1 ∧ yX1_rule.cls ≠ "java/lang/invoke/MethodHandle" ∧ yX1_rule.cls ≠ "java/lang/invoke/VarHandle" ∧ (parseMethodDescriptor yX1_rule.desc).map (fun d => d.parameters.length) = some 1 := by decide +kernel
theorem gX1_fact : GoodIn lw_all (wsV RX1 36 RX1 yX1_fact (ws_ yX1_fact cX1_fact 4 (some .boolean))) := lw_V q240 q242 qs14 q22 q243
theorem aX1_fact : yX1_fact.cls = RX1 ∧ yX1_fact.cls ≠ "java/lang/invoke/MethodHandle" ∧ yX1_fact.cls ≠ "java/lang/invoke/VarHandle" ∧ (parseMethodDescriptor yX1_fact.desc).map (fun d => d.parameters.length) = some 3 := by decide +kernel
theorem gX1_fits : GoodIn lw_all (wsV RX1 40 RX1 yX1_fits (ws_ yX1_fits cX1_fits 4 (some .boolean))) := lw_V q272 q274 qs19 q22 q275
theorem aX1_fits : yX1_fits.cls = RX1 ∧ yX1_fits.cls ≠ "java/lang/invoke/MethodHandle" ∧ yX1_fits.cls ≠ "java/lang/invoke/VarHandle" ∧ (parseMethodDescriptor yX1_fits.desc).map (fun d => d.parameters.length) = some 2 := by decide +kernel
theorem gX1_takes : GoodIn lw_all (wsV RX1 44 RX1 yX1_takes (ws_ yX1_takes cX1_takes 3 (some .boolean))) := lw_V q268 q270 qs18 q22 q271
theorem aX1_takes : yX1_takes.cls = RX1 ∧ yX1_takes.cls ≠ "java/lang/invoke/MethodHandle" ∧ yX1_takes.cls ≠ "java/lang/invoke/VarHandle" ∧ (parseMethodDescriptor yX1_takes.desc).map (fun d => d.parameters.length) = some 2 := by decide +kernel
theorem gX1_none : GoodIn lw_all (wsV RX1 47 RX1 yX1_none (ws_ yX1_none cX1_none 7 (some .boolean))) := lw_V q264 q266 qs17 q22 q267
theorem aX1_none : yX1_none.cls = RX1 ∧ yX1_none.cls ≠ "java/lang/invoke/MethodHandle" ∧ yX1_none.cls ≠ "java/lang/invoke/VarHandle" ∧ (parseMethodDescriptor yX1_none.desc).map (fun d => d.parameters.length) = some 1 := by decide +kernel
theorem gX1_isMatch : GoodIn lw_all (wsV RX1 50 RX1 yX1_isMatch (ws_ yX1_isMatch cX1_isMatch 9 (some .boolean))) := lw_V q260 q262 qs16 q22 q263
theorem aX1_isMatch : yX1_isMatch.cls = RX1 ∧ yX1_isMatch.cls ≠ "java/lang/invoke/MethodHandle" ∧ yX1_isMatch.cls ≠ "java/lang/invoke/VarHandle" ∧ (parseMethodDescriptor yX1_isMatch.desc).map (fun d => d.parameters.length) = some 3 := by decide +kernel
theorem gX1_count : GoodIn lw_all (wsV RX1 53 RX1 yX1_count (ws_ yX1_count cX1_count 5 (some .int))) := lw_V q256 q258 qs15 q22 q259
theorem aX1_count : yX1_count.cls = RX1 ∧ yX1_count.cls ≠ "java/lang/invoke/MethodHandle" ∧ yX1_count.cls ≠ "java/lang/invoke/VarHandle" ∧ (parseMethodDescriptor yX1_count.desc).map (fun d => d.parameters.length) = some 2 := by decide +kernel
theorem gX1_matches : GoodIn lw_all (wsV RX1 57 RX1 yX1_matches (ws_ yX1_matches cX1_matches 2 (some .int))) := lw_V q284 q253 q254 q22 q255
theorem aX1_matches : yX1_matches.cls = RX1 ∧ yX1_matches.cls ≠ "java/lang/invoke/MethodHandle" ∧ yX1_matches.cls ≠ "java/lang/invoke/VarHandle" ∧ (parseMethodDescriptor yX1_matches.desc).map (fun d => d.parameters.length) = some 1 := by decide +kernel
theorem gX1_facts : GoodIn lw_all (wsV RX1 61 RX1 yX1_facts (ws_ yX1_facts cX1_facts 3 (some .int))) := lw_V q301 q249 q250 q22 q251
theorem aX1_facts : yX1_facts.cls = RX1 ∧ yX1_facts.cls ≠ "java/lang/invoke/MethodHandle" ∧ yX1_facts.cls ≠ "java/lang/invoke/VarHandle" ∧ (parseMethodDescriptor yX1_facts.desc).map (fun d => d.parameters.length) = some 0 := by decide +kernel
theorem gX1_add : GoodIn lw_all (wsV RX1 65 RX1 yX1_add (ws_ yX1_add cX1_add 5 (some .int))) := lw_V q302 q237 q238 q22 q239
theorem aX1_add : yX1_add.cls = RX1 ∧ yX1_add.cls ≠ "java/lang/invoke/MethodHandle" ∧ yX1_add.cls ≠ "java/lang/invoke/VarHandle" ∧ (parseMethodDescriptor yX1_add.desc).map (fun d => d.parameters.length) = some 3 := by decide +kernel
theorem gX1_remove : GoodIn lw_all (wsV RX1 69 RX1 yX1_remove (ws_ yX1_remove cX1_remove 2 (some .boolean))) := lw_V q303 q245 q246 q22 q247
theorem aX1_remove : yX1_remove.cls = RX1 ∧ yX1_remove.cls ≠ "java/lang/invoke/MethodHandle" ∧ yX1_remove.cls ≠ "java/lang/invoke/VarHandle" ∧ (parseMethodDescriptor yX1_remove.desc).map (fun d => d.parameters.length) = some 1 := by decide +kernel
theorem bz {b c : Bool} (h : b = c) : nI c.toNat = nI b.toNat := by rw [h]
theorem bz0 {b : Bool} (h : b = false) : nI 0 = nI b.toNat := by rw [h]; rfl
theorem bz1 {b : Bool} (h : b = true) : nI 1 = nI b.toNat := by rw [h]; rfl
theorem nI_ex {x : Int32} {n : Nat} (h0 : 0 ≤ x.toInt) (h1 : x.toInt < n) : ∃ g : Nat, g < n ∧ x = nI g := by
  obtain ⟨j, hj, rfl⟩ := nI_of (x := x) (fun h => by
    have := Int32.lt_iff_toInt_lt.mp h
    rw [show (0 : Int32).toInt = 0 from rfl] at this
    omega)
  refine ⟨j, ?_, rfl⟩
  rw [toInt_nI hj] at h1
  omega
theorem holP_mono {code f i n : Nat} (h : holP code f i = true) (hn : i ≤ n) : holP code f n = true := by
  induction n with
  | zero => rw [show i = 0 by omega] at h; exact h
  | succ n ih =>
    by_cases e : i = n + 1
    · rw [← e]; exact h
    · unfold holP; rw [ih (by omega)]; rfl
def lrP (S : ES) (cell f : Nat) : Bool := decide (S 1 f = S 5 cell) && conB (S 6 cell) (S 2 f) && conB (S 7 cell) (S 3 f)
theorem s_isRule {σ : Type} (l : Launch) (K : zK) (w : σ → va_W) (S : σ) (x : Int32) : zMi l yX0_isRule cX0_isRule 1 (some .boolean) (rmH 0) K w S [.int x] (fun r S' => r = nI (isR x).toNat ∧ S' = S) := by
  refine z_entryI RX0 (by decide) rfl (Nat.le_of_ble_eq_true rfl) (lv := [(0, .int x)]) rfl (fun X hK hl hc hr => ?_)
  subst hK; subst hl
  refine z_iload_n hc dX0_isRule_0 0 rfl rfl ?_
  refine z_if_lt hc 13 dX0_isRule_1 (by decide) rfl (fun h1 => ?_) (fun h1 => ?_)
  · refine z_iconst hc ((nI 0)) dX0_isRule_13 (by decide) ?_
    exact z_iret hc hr (narZ 0 (by decide)) dX0_isRule_14 (⟨bz0 (by unfold isR; exact decide_eq_false (by omega)), rfl⟩)
  · refine z_iload_n hc dX0_isRule_4 0 rfl rfl ?_
    refine z_iconst hc ((nI 3)) dX0_isRule_5 (by decide) ?_
    refine z_icmp_ge hc 13 dX0_isRule_6 (by decide) rfl (toInt_nI (by omega)) (fun h2 => ?_) (fun h2 => ?_)
    · refine z_iconst hc ((nI 0)) dX0_isRule_13 (by decide) ?_
      exact z_iret hc hr (narZ 0 (by decide)) dX0_isRule_14 (⟨bz0 (by unfold isR; exact decide_eq_false (by omega)), rfl⟩)
    · refine z_iconst hc ((nI 1)) dX0_isRule_9 (by decide) ?_
      refine z_goto hc 14 dX0_isRule_10 (by decide) ?_
      exact z_iret hc hr (narZ 1 (by decide)) dX0_isRule_14 (⟨bz1 (by unfold isR; exact decide_eq_true (by omega)), rfl⟩)
theorem s_wordOf {σ : Type} (l : Launch) (K : zK) (w : σ → va_W) (S : σ) (a b c : Nat) (k1 : c < 2 ^ 31) : zMi l yX0_wordOf cX0_wordOf 3 (some .int) (rmH 0) K w S [.int (nI a), .int (nI b), .int (nI c)] (fun r S' => r = nI (wix a b c) ∧ S' = S) := by
  refine z_entryI RX0 (by decide) rfl (Nat.le_of_ble_eq_true rfl) (lv := [(0, .int (nI a)), (1, .int (nI b)), (2, .int (nI c))]) rfl (fun X hK hl hc hr => ?_)
  subst hK; subst hl
  refine z_iload_n hc dX0_wordOf_0 0 rfl rfl ?_
  refine z_bipush hc ((nI 11)) dX0_wordOf_1 (by decide) ?_
  refine z_imul (a := a) (b := 11) hc dX0_wordOf_3 ?_
  refine z_iload_n hc dX0_wordOf_4 1 rfl rfl ?_
  refine z_iadd (a := a * 11) (b := b) hc dX0_wordOf_5 ?_
  refine z_iload_n hc dX0_wordOf_6 2 rfl rfl ?_
  refine z_bipush hc ((nI 6)) dX0_wordOf_7 (by decide) ?_
  refine z_ishr hc dX0_wordOf_9 (64) (by decide) (by omega) (by omega) ?_
  refine z_iadd (a := (a * 11) + b) (b := c / 64) hc dX0_wordOf_10 ?_
  exact z_iret hc hr rfl dX0_wordOf_11 (⟨rfl, rfl⟩)
theorem s_codes {σ : Type} (l : Launch) (K : zK) (w : σ → va_W) (S : σ) (k : Nat) (k1 : k ≤ 3) : zMi l yX0_codes cX0_codes 1 (some .int) (rmH 0) K w S [.int (nI k)] (fun r S' => r = nI (8 ^ k) ∧ S' = S) := by
  refine z_entryI RX0 (by decide) rfl (Nat.le_of_ble_eq_true rfl) (lv := [(0, .int (nI k))]) rfl (fun X hK hl hc hr => ?_)
  subst hK; subst hl
  have k2 := p8_le k1
  refine z_iconst hc ((nI 1)) dX0_codes_0 (by decide) ?_
  refine z_iconst hc ((nI 3)) dX0_codes_1 (by decide) ?_
  refine z_iload_n hc dX0_codes_2 0 rfl rfl ?_
  refine z_imul (a := 3) (b := k) hc dX0_codes_3 ?_
  refine z_ishl hc dX0_codes_4 (8 ^ k) (pow8 k) (by omega) (by omega) ?_
  refine z_nat (b := 8 ^ k) (Nat.one_mul _) ?_
  exact z_iret hc hr rfl dX0_codes_5 (⟨rfl, rfl⟩)
theorem s_constant {σ : Type} (l : Launch) (K : zK) (w : σ → va_W) (S : σ) (d v : Nat) (k1 : d < 2 ^ 31) (k2 : v < 2 ^ 31) : zMi l yX0_constant cX0_constant 2 (some .boolean) (rmH 0) K w S [.int (nI d), .int (nI v)] (fun r S' => r = nI (conB d v).toNat ∧ S' = S) := by
  refine z_entryI RX0 (by decide) rfl (Nat.le_of_ble_eq_true rfl) (lv := [(0, .int (nI d)), (1, .int (nI v))]) rfl (fun X hK hl hc hr => ?_)
  subst hK; subst hl
  refine z_iload_n hc dX0_constant_0 0 rfl rfl ?_
  refine z_iconst hc ((nI 4)) dX0_constant_1 (by decide) ?_
  refine z_icmp_ge hc 10 dX0_constant_2 (by decide) (toInt_nI (by omega)) (toInt_nI (by omega)) (fun h1 => ?_) (fun h1 => ?_)
  · refine z_iconst hc ((nI 1)) dX0_constant_10 (by decide) ?_
    refine z_goto hc 15 dX0_constant_11 (by decide) ?_
    exact z_iret hc hr (narZ 1 (by decide)) dX0_constant_15 (⟨bz1 (by unfold conB; exact decide_eq_true (by omega)), rfl⟩)
  · refine z_iload_n hc dX0_constant_5 0 rfl rfl ?_
    refine z_iload_n hc dX0_constant_6 1 rfl rfl ?_
    refine z_icmp_ne hc 14 dX0_constant_7 (by decide) (toInt_nI (by omega)) (toInt_nI (by omega)) (fun h2 => ?_) (fun h2 => ?_)
    · refine z_iconst hc ((nI 0)) dX0_constant_14 (by decide) ?_
      exact z_iret hc hr (narZ 0 (by decide)) dX0_constant_15 (⟨bz0 (by unfold conB; exact decide_eq_false (by omega)), rfl⟩)
    · refine z_iconst hc ((nI 1)) dX0_constant_10 (by decide) ?_
      refine z_goto hc 15 dX0_constant_11 (by decide) ?_
      exact z_iret hc hr (narZ 1 (by decide)) dX0_constant_15 (⟨bz1 (by unfold conB; exact decide_eq_true (by omega)), rfl⟩)
theorem s_factOk {σ : Type} (l : Launch) (K : zK) (w : σ → va_W) (S : σ) (x y z : Int32) : zMi l yX0_factOk cX0_factOk 3 (some .boolean) (rmH 0) K w S [.int x, .int y, .int z] (fun r S' => r = nI (fOk x y z).toNat ∧ S' = S) := by
  refine z_entryI RX0 (by decide) rfl (Nat.le_of_ble_eq_true rfl) (lv := [(0, .int x), (1, .int y), (2, .int z)]) rfl (fun X hK hl hc hr => ?_)
  subst hK; subst hl
  refine z_iload_n hc dX0_factOk_0 0 rfl rfl ?_
  refine z_if_lt hc 31 dX0_factOk_1 (by decide) rfl (fun h0 => ?_) (fun h0 => ?_)
  · refine z_iconst hc ((nI 0)) dX0_factOk_31 (by decide) ?_
    exact z_iret hc hr (narZ 0 (by decide)) dX0_factOk_32 (⟨bz0 (by unfold fOk; exact decide_eq_false (by omega)), rfl⟩)
  · refine z_iload_n hc dX0_factOk_4 0 rfl rfl ?_
    refine z_iconst hc ((nI 2)) dX0_factOk_5 (by decide) ?_
    refine z_icmp_gt hc 31 dX0_factOk_6 (by decide) rfl (toInt_nI (by omega)) (fun h1 => ?_) (fun h1 => ?_)
    · refine z_iconst hc ((nI 0)) dX0_factOk_31 (by decide) ?_
      exact z_iret hc hr (narZ 0 (by decide)) dX0_factOk_32 (⟨bz0 (by unfold fOk; exact decide_eq_false (by omega)), rfl⟩)
    · refine z_iload_n hc dX0_factOk_9 1 rfl rfl ?_
      refine z_if_lt hc 31 dX0_factOk_10 (by decide) rfl (fun h2 => ?_) (fun h2 => ?_)
      · refine z_iconst hc ((nI 0)) dX0_factOk_31 (by decide) ?_
        exact z_iret hc hr (narZ 0 (by decide)) dX0_factOk_32 (⟨bz0 (by unfold fOk; exact decide_eq_false (by omega)), rfl⟩)
      · refine z_iload_n hc dX0_factOk_13 1 rfl rfl ?_
        refine z_iconst hc ((nI 3)) dX0_factOk_14 (by decide) ?_
        refine z_icmp_gt hc 31 dX0_factOk_15 (by decide) rfl (toInt_nI (by omega)) (fun h3 => ?_) (fun h3 => ?_)
        · refine z_iconst hc ((nI 0)) dX0_factOk_31 (by decide) ?_
          exact z_iret hc hr (narZ 0 (by decide)) dX0_factOk_32 (⟨bz0 (by unfold fOk; exact decide_eq_false (by omega)), rfl⟩)
        · refine z_iload_n hc dX0_factOk_18 2 rfl rfl ?_
          refine z_if_lt hc 31 dX0_factOk_19 (by decide) rfl (fun h4 => ?_) (fun h4 => ?_)
          · refine z_iconst hc ((nI 0)) dX0_factOk_31 (by decide) ?_
            exact z_iret hc hr (narZ 0 (by decide)) dX0_factOk_32 (⟨bz0 (by unfold fOk; exact decide_eq_false (by omega)), rfl⟩)
          · refine z_iload_n hc dX0_factOk_22 2 rfl rfl ?_
            refine z_iconst hc ((nI 3)) dX0_factOk_23 (by decide) ?_
            refine z_icmp_gt hc 31 dX0_factOk_24 (by decide) rfl (toInt_nI (by omega)) (fun h5 => ?_) (fun h5 => ?_)
            · refine z_iconst hc ((nI 0)) dX0_factOk_31 (by decide) ?_
              exact z_iret hc hr (narZ 0 (by decide)) dX0_factOk_32 (⟨bz0 (by unfold fOk; exact decide_eq_false (by omega)), rfl⟩)
            · refine z_iconst hc ((nI 1)) dX0_factOk_27 (by decide) ?_
              refine z_goto hc 32 dX0_factOk_28 (by decide) ?_
              exact z_iret hc hr (narZ 1 (by decide)) dX0_factOk_32 (⟨bz1 (by unfold fOk; exact decide_eq_true (by omega)), rfl⟩)
theorem s_holds {σ : Type} (l : Launch) (K : zK) (w : σ → va_W) (S : σ) (code level f : Nat) (k1 : code < 2 ^ 31) (k2 : level ≤ 3) (k3 : f < 2 ^ 31) : zMi l yX0_holds cX0_holds 4 (some .boolean) (rmH 0) K w S [.int (nI code), .int (nI level), .int (nI f)] (fun r S' => r = nI (holP code f level).toNat ∧ S' = S) := by
  refine z_entryI RX0 (by decide) rfl (Nat.le_of_ble_eq_true rfl) (lv := [(0, .int (nI code)), (1, .int (nI level)), (2, .int (nI f))]) rfl (fun X hK hl hc hr => ?_)
  subst hK; subst hl
  refine z_iconst hc ((nI 0)) dX0_holds_0 (by decide) ?_
  refine z_istore_n (lv' := [(0, .int (nI code)), (1, .int (nI level)), (2, .int (nI f)), (3, .int (nI 0))]) hc dX0_holds_1 rfl (by decide) rfl ?_
  have L : ∀ (i : Nat) (t : Unit), i ≤ level → holP code f i = false → zG X w 4 S [(0, .int (nI code)), (1, .int (nI level)), (2, .int (nI f)), (3, .int (nI i))] 2 [] := by
    refine z_loop level (fun i _ => holP code f i = false) _ (fun i t hi hI ih => ?_)
    refine z_iload_n hc dX0_holds_2 3 rfl rfl ?_
    refine z_iload_n hc dX0_holds_3 1 rfl rfl ?_
    refine z_icmp_ge hc 27 dX0_holds_4 (by decide) (toInt_nI (by omega)) (toInt_nI (by omega)) (fun h1 => ?_) (fun h1 => ?_)
    · have e : i = level := by omega
      subst e
      refine z_iconst hc ((nI 0)) dX0_holds_27 (by decide) ?_
      exact z_iret hc hr (narZ 0 (by decide)) dX0_holds_28 (⟨bz hI, rfl⟩)
    · refine z_iload_n hc dX0_holds_7 0 rfl rfl ?_
      refine z_iconst hc ((nI 3)) dX0_holds_8 (by decide) ?_
      refine z_iload_n hc dX0_holds_9 3 rfl rfl ?_
      refine z_imul (a := 3) (b := i) hc dX0_holds_10 ?_
      refine z_ishr hc dX0_holds_11 (8 ^ i) (pow8 i) (by omega) (by omega) ?_
      refine z_bipush hc ((nI 7)) dX0_holds_12 (by decide) ?_
      refine z_iandm hc 3 8 dX0_holds_14 (by decide) (by decide) ?_
      refine z_iload_n hc dX0_holds_15 2 rfl rfl ?_
      refine z_icmp_ne hc 21 dX0_holds_16 (by decide) (toInt_nI (by omega)) (toInt_nI (by omega)) (fun h2 => ?_) (fun h2 => ?_)
      · refine z_iinc (a := i) (lv' := [(0, .int (nI code)), (1, .int (nI level)), (2, .int (nI f)), (3, .int (nI (i + 1)))]) hc dX0_holds_21 3 rfl (by decide) rfl ?_
        refine z_goto hc 2 dX0_holds_24 (by decide) ?_
        refine ih (by omega) () ?_
        show (holP code f i || decide (dig code i = f)) = false
        rw [hI, decide_eq_false (show ¬ dig code i = f from fun e => h2 (by rw [← e]; rfl))]
        rfl
      · refine z_iconst hc ((nI 1)) dX0_holds_19 (by decide) ?_
        exact z_iret hc hr (narZ 1 (by decide)) dX0_holds_20 (⟨bz (holP_mono (i := i + 1) (by show (holP code f i || decide (dig code i = f)) = true; rw [decide_eq_true (show dig code i = f from Int.ofNat.inj h2)]; exact Bool.or_true _) (by omega)), rfl⟩)
  exact L 0 () (Nat.zero_le _) rfl
theorem e_has (l : Launch) (K : zK) (q : Nat → Nat) (S : ES) (x : Int32) (k1 : eOK S) : zMi l yX0_has cX0_has 2 (some .boolean) (rmH 0) K (eW K q) S [.ref (q 0), .int x] (fun r S' => r = nI (hasI S x).toNat ∧ S' = S) := by
  refine z_entryI RX0 (by decide) rfl (Nat.le_of_ble_eq_true rfl) (lv := [(0, .ref (q 0)), (1, .int x)]) rfl (fun X hK hl hc hr => ?_)
  subst hK; subst hl
  refine z_iload_n hc dX0_has_0 1 rfl rfl ?_
  refine z_if_lt hc 25 dX0_has_1 (by decide) rfl (fun h1 => ?_) (fun h1 => ?_)
  · refine z_iconst hc ((nI 0)) dX0_has_25 (by decide) ?_
    exact z_iret hc hr (narZ 0 (by decide)) dX0_has_26 (⟨bz0 (by unfold hasI; rw [decide_eq_false (by omega)]; rfl), rfl⟩)
  · refine z_iload_n hc dX0_has_4 1 rfl rfl ?_
    refine z_bipush hc ((nI 7)) dX0_has_5 (by decide) ?_
    refine z_icmp_ge hc 25 dX0_has_7 (by decide) rfl (toInt_nI (by omega)) (fun h2 => ?_) (fun h2 => ?_)
    · refine z_iconst hc ((nI 0)) dX0_has_25 (by decide) ?_
      exact z_iret hc hr (narZ 0 (by decide)) dX0_has_26 (⟨bz0 (by unfold hasI; rw [decide_eq_false (by omega)]; rfl), rfl⟩)
    · obtain ⟨g, kg, rfl⟩ := nI_ex (x := x) (n := 7) (by omega) (by omega)
      have k2 : S 0 0 < 128 := k1 0 0
      refine z_aload_n hc dX0_has_10 0 rfl rfl ?_
      refine z_eget hc 0 (by decide) q31 rfl dX0_has_11 ?_
      refine z_iload_n hc dX0_has_14 1 rfl rfl ?_
      refine z_ishr hc dX0_has_15 (2 ^ g) rfl (by omega) (by omega) ?_
      refine z_iconst hc ((nI 1)) dX0_has_16 (by decide) ?_
      refine z_iandm hc 1 2 dX0_has_17 (by decide) (by decide) ?_
      refine z_nat (b := (hsN S g).toNat) (bit_div _ _) ?_
      refine z_ifeqB hc 25 dX0_has_18 (by decide) (fun h3 => ?_) (fun h3 => ?_)
      · refine z_iconst hc ((nI 0)) dX0_has_25 (by decide) ?_
        exact z_iret hc hr (narZ 0 (by decide)) dX0_has_26 (⟨bz ((hasI_n kg).trans h3), rfl⟩)
      · refine z_iconst hc ((nI 1)) dX0_has_21 (by decide) ?_
        refine z_goto hc 26 dX0_has_22 (by decide) ?_
        exact z_iret hc hr (narZ 1 (by decide)) dX0_has_26 (⟨bz ((hasI_n kg).trans h3), rfl⟩)
theorem e_isIn (l : Launch) (K : zK) (q : Nat → Nat) (S : ES) (a b c : Nat) (k1 : eOK S) (k2 : wix a b c < 33) (k3 : c < 2 ^ 31) : zMi l yX0_isIn cX0_isIn 5 (some .boolean) (rmH 1) K (eW K q) S [.ref (q 0), .int (nI a), .int (nI b), .int (nI c)] (fun r S' => r = nI (bitW (S 9) a b c).toNat ∧ S' = S) := by
  refine z_entryI RX0 (by decide) rfl (Nat.le_of_ble_eq_true rfl) (lv := [(0, .ref (q 0)), (1, .int (nI a)), (2, .int (nI b)), (3, .int (nI c))]) rfl (fun X hK hl hc hr => ?_)
  subst hK; subst hl
  refine z_iload_n hc dX0_isIn_0 1 rfl rfl ?_
  refine z_iload_n hc dX0_isIn_1 2 rfl rfl ?_
  refine z_iload_n hc dX0_isIn_2 3 rfl rfl ?_
  refine z_callSi (As := [.int (nI a), .int (nI b), .int (nI c)]) (rest := []) hc (s_wordOf _ _ _ _ a b c k3) gX0_wordOf aX0_wordOf (by decide) rfl rfl (Nat.le_of_ble_eq_true rfl) dX0_isIn_3 (fun rx Sx h1 => ?_)
  rw [h1.1, h1.2]
  refine z_istore (lv' := [(0, .ref (q 0)), (1, .int (nI a)), (2, .int (nI b)), (3, .int (nI c)), (4, .int (nI (wix a b c)))]) hc dX0_isIn_6 (by decide) rfl ?_
  refine z_aload_n hc dX0_isIn_8 0 rfl rfl ?_
  refine z_eget hc 9 (by decide) q40 rfl dX0_isIn_9 ?_
  refine z_iload hc dX0_isIn_12 4 rfl ?_
  refine z_lald (q0 := 9) (N := 33) (f := S 9) hc rfl (show wix a b c < 33 by omega) (by decide) dX0_isIn_14 ?_
  refine z_iload_n hc dX0_isIn_15 3 rfl rfl ?_
  refine z_bipush hc ((nI 63)) dX0_isIn_16 (by decide) ?_
  refine z_iandm hc 6 64 dX0_isIn_18 (by decide) (by decide) ?_
  refine z_lushr hc dX0_isIn_19 (k1 9 _) (by omega) ?_
  refine z_lconst hc 1 dX0_isIn_20 rfl ?_
  refine z_land1 hc dX0_isIn_21 (Nat.lt_of_le_of_lt (Nat.div_le_self _ _) (k1 9 _)) ?_
  refine z_lconst hc 0 dX0_isIn_22 rfl ?_
  refine z_lcmp0 hc dX0_isIn_23 (Nat.mod_lt _ (by decide)) ?_
  refine z_nat (b := (bitW (S 9) a b c).toNat) (bit_div _ _) ?_
  refine z_ifeqB hc 31 dX0_isIn_24 (by decide) (fun h2 => ?_) (fun h2 => ?_)
  · refine z_iconst hc ((nI 0)) dX0_isIn_31 (by decide) ?_
    exact z_iret hc hr (narZ 0 (by decide)) dX0_isIn_32 (⟨bz h2, rfl⟩)
  · refine z_iconst hc ((nI 1)) dX0_isIn_27 (by decide) ?_
    refine z_goto hc 32 dX0_isIn_28 (by decide) ?_
    exact z_iret hc hr (narZ 1 (by decide)) dX0_isIn_32 (⟨bz h2, rfl⟩)
theorem e_wasIn (l : Launch) (K : zK) (q : Nat → Nat) (S : ES) (a b c : Nat) (k1 : eOK S) (k2 : wix a b c < 33) (k3 : c < 2 ^ 31) : zMi l yX0_wasIn cX0_wasIn 5 (some .boolean) (rmH 1) K (eW K q) S [.ref (q 0), .int (nI a), .int (nI b), .int (nI c)] (fun r S' => r = nI (bitW (S 10) a b c).toNat ∧ S' = S) := by
  refine z_entryI RX0 (by decide) rfl (Nat.le_of_ble_eq_true rfl) (lv := [(0, .ref (q 0)), (1, .int (nI a)), (2, .int (nI b)), (3, .int (nI c))]) rfl (fun X hK hl hc hr => ?_)
  subst hK; subst hl
  refine z_iload_n hc dX0_wasIn_0 1 rfl rfl ?_
  refine z_iload_n hc dX0_wasIn_1 2 rfl rfl ?_
  refine z_iload_n hc dX0_wasIn_2 3 rfl rfl ?_
  refine z_callSi (As := [.int (nI a), .int (nI b), .int (nI c)]) (rest := []) hc (s_wordOf _ _ _ _ a b c k3) gX0_wordOf aX0_wordOf (by decide) rfl rfl (Nat.le_of_ble_eq_true rfl) dX0_wasIn_3 (fun rx Sx h1 => ?_)
  rw [h1.1, h1.2]
  refine z_istore (lv' := [(0, .ref (q 0)), (1, .int (nI a)), (2, .int (nI b)), (3, .int (nI c)), (4, .int (nI (wix a b c)))]) hc dX0_wasIn_6 (by decide) rfl ?_
  refine z_aload_n hc dX0_wasIn_8 0 rfl rfl ?_
  refine z_eget hc 10 (by decide) q41 rfl dX0_wasIn_9 ?_
  refine z_iload hc dX0_wasIn_12 4 rfl ?_
  refine z_lald (q0 := 10) (N := 33) (f := S 10) hc rfl (show wix a b c < 33 by omega) (by decide) dX0_wasIn_14 ?_
  refine z_iload_n hc dX0_wasIn_15 3 rfl rfl ?_
  refine z_bipush hc ((nI 63)) dX0_wasIn_16 (by decide) ?_
  refine z_iandm hc 6 64 dX0_wasIn_18 (by decide) (by decide) ?_
  refine z_lushr hc dX0_wasIn_19 (k1 10 _) (by omega) ?_
  refine z_lconst hc 1 dX0_wasIn_20 rfl ?_
  refine z_land1 hc dX0_wasIn_21 (Nat.lt_of_le_of_lt (Nat.div_le_self _ _) (k1 10 _)) ?_
  refine z_lconst hc 0 dX0_wasIn_22 rfl ?_
  refine z_lcmp0 hc dX0_wasIn_23 (Nat.mod_lt _ (by decide)) ?_
  refine z_nat (b := (bitW (S 10) a b c).toNat) (bit_div _ _) ?_
  refine z_ifeqB hc 31 dX0_wasIn_24 (by decide) (fun h2 => ?_) (fun h2 => ?_)
  · refine z_iconst hc ((nI 0)) dX0_wasIn_31 (by decide) ?_
    exact z_iret hc hr (narZ 0 (by decide)) dX0_wasIn_32 (⟨bz h2, rfl⟩)
  · refine z_iconst hc ((nI 1)) dX0_wasIn_27 (by decide) ?_
    refine z_goto hc 32 dX0_wasIn_28 (by decide) ?_
    exact z_iret hc hr (narZ 1 (by decide)) dX0_wasIn_32 (⟨bz h2, rfl⟩)
theorem e_put (l : Launch) (K : zK) (q : Nat → Nat) (S : ES) (a b c : Nat) (k1 : eOK S) (k2 : wix a b c < 33) (k3 : c < 2 ^ 31) : zMv l yX0_put cX0_put 5 none (rmH 1) K (eW K q) S [.ref (q 0), .int (nI a), .int (nI b), .int (nI c)] (fun S' => S' = up2 S 9 (wix a b c) (S 9 (wix a b c) ||| 2 ^ (c % 64))) := by
  refine z_entryV RX0 (by decide) rfl (Nat.le_of_ble_eq_true rfl) (lv := [(0, .ref (q 0)), (1, .int (nI a)), (2, .int (nI b)), (3, .int (nI c))]) rfl (fun X hK hl hc hr => ?_)
  subst hK; subst hl
  refine z_iload_n hc dX0_put_0 1 rfl rfl ?_
  refine z_iload_n hc dX0_put_1 2 rfl rfl ?_
  refine z_iload_n hc dX0_put_2 3 rfl rfl ?_
  refine z_callSi (As := [.int (nI a), .int (nI b), .int (nI c)]) (rest := []) hc (s_wordOf _ _ _ _ a b c k3) gX0_wordOf aX0_wordOf (by decide) rfl rfl (Nat.le_of_ble_eq_true rfl) dX0_put_3 (fun rx Sx h1 => ?_)
  rw [h1.1, h1.2]
  refine z_istore (lv' := [(0, .ref (q 0)), (1, .int (nI a)), (2, .int (nI b)), (3, .int (nI c)), (4, .int (nI (wix a b c)))]) hc dX0_put_6 (by decide) rfl ?_
  refine z_aload_n hc dX0_put_8 0 rfl rfl ?_
  refine z_eget hc 9 (by decide) q40 rfl dX0_put_9 ?_
  refine z_iload hc dX0_put_12 4 rfl ?_
  refine z_dup2 hc dX0_put_14 rfl rfl ?_
  refine z_lald (q0 := 9) (N := 33) (f := S 9) hc rfl (show wix a b c < 33 by omega) (by decide) dX0_put_15 ?_
  refine z_lconst hc 1 dX0_put_16 rfl ?_
  refine z_iload_n hc dX0_put_17 3 rfl rfl ?_
  refine z_bipush hc ((nI 63)) dX0_put_18 (by decide) ?_
  refine z_iandm hc 6 64 dX0_put_20 (by decide) (by decide) ?_
  refine z_lshl hc dX0_put_21 (by omega) ?_
  refine z_natL (b := 2 ^ (c % 64)) (Nat.one_mul _) ?_
  refine z_lor hc dX0_put_22 (k1 9 _) (wb_lt2 (Nat.mod_lt _ (by decide))) ?_
  refine z_last (q0 := 9) (N := 33) (f := S 9) hc rfl (show wix a b c < 33 by omega) (by decide) (eW_set9 _ _ _ _ _) dX0_put_23 ?_
  exact z_vret hc hr dX0_put_24 (rfl)
theorem e_looksRight (l : Launch) (K : zK) (q : Nat → Nat) (S : ES) (cell f : Nat) (k1 : eOK S) (k2 : cell < 9) (k3 : f < 7) : zMi l yX0_looksRight cX0_looksRight 3 (some .boolean) (rmH 1) K (eW K q) S [.ref (q 0), .int (nI cell), .int (nI f)] (fun r S' => r = nI (lrP S cell f).toNat ∧ S' = S) := by
  refine z_entryI RX0 (by decide) rfl (Nat.le_of_ble_eq_true rfl) (lv := [(0, .ref (q 0)), (1, .int (nI cell)), (2, .int (nI f))]) rfl (fun X hK hl hc hr => ?_)
  subst hK; subst hl
  have b1 : S 1 f < 3 := k1 1 f
  have b2 : S 2 f < 4 := k1 2 f
  have b3 : S 3 f < 4 := k1 3 f
  have b5 : S 5 cell < 3 := k1 5 cell
  have b6 : S 6 cell < 8 := k1 6 cell
  have b7 : S 7 cell < 8 := k1 7 cell
  refine z_aload_n hc dX0_looksRight_0 0 rfl rfl ?_
  refine z_eget hc 1 (by decide) q32 rfl dX0_looksRight_1 ?_
  refine z_iload_n hc dX0_looksRight_4 2 rfl rfl ?_
  refine z_bald (q0 := 1) (N := 7) (f := S 1) hc rfl (show f < 7 by omega) (by decide) dX0_looksRight_5 ?_
  refine z_aload_n hc dX0_looksRight_6 0 rfl rfl ?_
  refine z_eget hc 5 (by decide) q36 rfl dX0_looksRight_7 ?_
  refine z_iload_n hc dX0_looksRight_10 1 rfl rfl ?_
  refine z_bald (q0 := 5) (N := 9) (f := S 5) hc rfl (show cell < 9 by omega) (by decide) dX0_looksRight_11 ?_
  refine z_icmp_ne hc 55 dX0_looksRight_12 (by decide) (toInt_nI (by omega)) (toInt_nI (by omega)) (fun h1 => ?_) (fun h1 => ?_)
  · have h1 : ¬ S 1 f = S 5 cell := by omega
    refine z_iconst hc ((nI 0)) dX0_looksRight_55 (by decide) ?_
    exact z_iret hc hr (narZ 0 (by decide)) dX0_looksRight_56 (⟨bz0 (by simp [lrP, h1]), rfl⟩)
  · have h1 : S 1 f = S 5 cell := by omega
    refine z_aload_n hc dX0_looksRight_15 0 rfl rfl ?_
    refine z_eget hc 6 (by decide) q37 rfl dX0_looksRight_16 ?_
    refine z_iload_n hc dX0_looksRight_19 1 rfl rfl ?_
    refine z_bald (q0 := 6) (N := 9) (f := S 6) hc rfl (show cell < 9 by omega) (by decide) dX0_looksRight_20 ?_
    refine z_aload_n hc dX0_looksRight_21 0 rfl rfl ?_
    refine z_eget hc 2 (by decide) q33 rfl dX0_looksRight_22 ?_
    refine z_iload_n hc dX0_looksRight_25 2 rfl rfl ?_
    refine z_bald (q0 := 2) (N := 7) (f := S 2) hc rfl (show f < 7 by omega) (by decide) dX0_looksRight_26 ?_
    refine z_callSi (As := [.int (nI (S 6 cell)), .int (nI (S 2 f))]) (rest := []) hc (s_constant _ _ _ _ (S 6 cell) (S 2 f) (by omega) (by omega)) gX0_constant aX0_constant (by decide) rfl rfl (Nat.le_of_ble_eq_true rfl) dX0_looksRight_27 (fun rx Sx h2 => ?_)
    rw [h2.1, h2.2]
    refine z_ifeqB hc 55 dX0_looksRight_30 (by decide) (fun h3 => ?_) (fun h3 => ?_)
    · refine z_iconst hc ((nI 0)) dX0_looksRight_55 (by decide) ?_
      exact z_iret hc hr (narZ 0 (by decide)) dX0_looksRight_56 (⟨bz0 (by simp [lrP, h3]), rfl⟩)
    · refine z_aload_n hc dX0_looksRight_33 0 rfl rfl ?_
      refine z_eget hc 7 (by decide) q38 rfl dX0_looksRight_34 ?_
      refine z_iload_n hc dX0_looksRight_37 1 rfl rfl ?_
      refine z_bald (q0 := 7) (N := 9) (f := S 7) hc rfl (show cell < 9 by omega) (by decide) dX0_looksRight_38 ?_
      refine z_aload_n hc dX0_looksRight_39 0 rfl rfl ?_
      refine z_eget hc 3 (by decide) q34 rfl dX0_looksRight_40 ?_
      refine z_iload_n hc dX0_looksRight_43 2 rfl rfl ?_
      refine z_bald (q0 := 3) (N := 7) (f := S 3) hc rfl (show f < 7 by omega) (by decide) dX0_looksRight_44 ?_
      refine z_callSi (As := [.int (nI (S 7 cell)), .int (nI (S 3 f))]) (rest := []) hc (s_constant _ _ _ _ (S 7 cell) (S 3 f) (by omega) (by omega)) gX0_constant aX0_constant (by decide) rfl rfl (Nat.le_of_ble_eq_true rfl) dX0_looksRight_45 (fun rx Sx h4 => ?_)
      rw [h4.1, h4.2]
      refine z_ifeqB hc 55 dX0_looksRight_48 (by decide) (fun h5 => ?_) (fun h5 => ?_)
      · refine z_iconst hc ((nI 0)) dX0_looksRight_55 (by decide) ?_
        exact z_iret hc hr (narZ 0 (by decide)) dX0_looksRight_56 (⟨bz0 (by simp [lrP, h1, h3, h5]), rfl⟩)
      · refine z_iconst hc ((nI 1)) dX0_looksRight_51 (by decide) ?_
        refine z_goto hc 56 dX0_looksRight_52 (by decide) ?_
        exact z_iret hc hr (narZ 1 (by decide)) dX0_looksRight_56 (⟨bz1 (by simp [lrP, h1, h3, h5]), rfl⟩)
end
section
/-! meets, fits, bindAlong, anyFits: walks printed by w12.py -/
set_option maxRecDepth 100000
theorem anP_mono {S : ES} {e : E3} {cell i n : Nat} (h : anP S e cell i = true) (hn : i ≤ n) : anP S e cell n = true := by
  induction n with
  | zero => rw [show i = 0 by omega] at h; exact h
  | succ n ih =>
    by_cases e : i = n + 1
    · rw [← e]; exact h
    · unfold anP; rw [ih (by omega)]; rfl
theorem eb_eq {f g : Nat → Nat} (h : ∀ j, j < 3 → f j = g j) : eb f = eb g := by
  unfold eb
  rw [h 0 (by decide), h 1 (by decide), h 2 (by decide)]
theorem e_meets (l : Launch) (K : zK) (q : Nat → Nat) (S : ES) (d v : Nat) (k1 : eOK S) (k2 : d < 8) (k3 : v < 4) : zMi l yX0_meets cX0_meets 4 (some .boolean) (rmH 0) K (eW K q) S [.ref (q 0), .int (nI d), .int (nI v)] (fun r S' => r = nI (meP (eb (S 12)) d v).1.toNat ∧ eb (S' 12) = (meP (eb (S 12)) d v).2 ∧ (∀ i, i ≠ 12 → S' i = S i) ∧ eOK S') := by
  refine z_entryI RX0 (by decide) rfl (Nat.le_of_ble_eq_true rfl) (lv := [(0, .ref (q 0)), (1, .int (nI d)), (2, .int (nI v))]) rfl (fun X hK hl hc hr => ?_)
  subst hK; subst hl
  refine z_iload_n hc dX0_meets_0 1 rfl rfl ?_
  refine z_iconst hc ((nI 4)) dX0_meets_1 (by decide) ?_
  refine z_icmp_lt hc 11 dX0_meets_2 (by decide) (toInt_nI (by omega)) (toInt_nI (by omega)) (fun h1 => ?_) (fun h1 => ?_)
  · refine z_iload_n hc dX0_meets_11 1 rfl rfl ?_
    refine z_bipush hc ((nI 7)) dX0_meets_12 (by decide) ?_
    refine z_icmp_eq hc 22 dX0_meets_14 (by decide) (toInt_nI (by omega)) (toInt_nI (by omega)) (fun h3 => ?_) (fun h3 => ?_)
    · exfalso
      omega
    · refine z_iload_n hc dX0_meets_17 1 rfl rfl ?_
      refine z_iload_n hc dX0_meets_18 2 rfl rfl ?_
      refine z_icmp_ne hc 26 dX0_meets_19 (by decide) (toInt_nI (by omega)) (toInt_nI (by omega)) (fun h4 => ?_) (fun h4 => ?_)
      · have m : meP (eb (S 12)) d v = (false, eb (S 12)) := by unfold meP; rw [if_pos (by omega), decide_eq_false (by omega)]
        refine z_iconst hc ((nI 0)) dX0_meets_26 (by decide) ?_
        exact z_iret hc hr (narZ 0 (by decide)) dX0_meets_27 (⟨congrArg (fun z : Bool × E3 => nI z.1.toNat) m.symm, congrArg Prod.snd m.symm, fun _ _ => rfl, k1⟩)
      · have m : meP (eb (S 12)) d v = (true, eb (S 12)) := by unfold meP; rw [if_pos (by omega), decide_eq_true (by omega)]
        refine z_iconst hc ((nI 1)) dX0_meets_22 (by decide) ?_
        refine z_goto hc 27 dX0_meets_23 (by decide) ?_
        exact z_iret hc hr (narZ 1 (by decide)) dX0_meets_27 (⟨congrArg (fun z : Bool × E3 => nI z.1.toNat) m.symm, congrArg Prod.snd m.symm, fun _ _ => rfl, k1⟩)
  · refine z_iload_n hc dX0_meets_5 1 rfl rfl ?_
    refine z_bipush hc ((nI 7)) dX0_meets_6 (by decide) ?_
    refine z_icmp_ne hc 28 dX0_meets_8 (by decide) (toInt_nI (by omega)) (toInt_nI (by omega)) (fun h2 => ?_) (fun h2 => ?_)
    · have b12 : S 12 (d - 4) < 5 := k1 12 _
      refine z_iload_n hc dX0_meets_28 1 rfl rfl ?_
      refine z_iconst hc ((nI 4)) dX0_meets_29 (by decide) ?_
      refine z_isub (a := d) (b := 4) hc dX0_meets_30 (by omega) ?_
      refine z_istore_n (lv' := [(0, .ref (q 0)), (1, .int (nI d)), (2, .int (nI v)), (3, .int (nI (d - 4)))]) hc dX0_meets_31 rfl (by decide) rfl ?_
      refine z_aload_n hc dX0_meets_32 0 rfl rfl ?_
      refine z_eget hc 12 (by decide) q43 rfl dX0_meets_33 ?_
      refine z_iload_n hc dX0_meets_36 3 rfl rfl ?_
      refine z_bald (q0 := 12) (N := 3) (f := S 12) hc rfl (show d - 4 < 3 by omega) (by decide) dX0_meets_37 ?_
      refine z_iconst hc ((nI 4)) dX0_meets_38 (by decide) ?_
      refine z_icmp_ne hc 52 dX0_meets_39 (by decide) (toInt_nI (by omega)) (toInt_nI (by omega)) (fun h3 => ?_) (fun h3 => ?_)
      · refine z_aload_n hc dX0_meets_52 0 rfl rfl ?_
        refine z_eget hc 12 (by decide) q43 rfl dX0_meets_53 ?_
        refine z_iload_n hc dX0_meets_56 3 rfl rfl ?_
        refine z_bald (q0 := 12) (N := 3) (f := S 12) hc rfl (show d - 4 < 3 by omega) (by decide) dX0_meets_57 ?_
        refine z_iload_n hc dX0_meets_58 2 rfl rfl ?_
        refine z_icmp_ne hc 66 dX0_meets_59 (by decide) (toInt_nI (by omega)) (toInt_nI (by omega)) (fun h4 => ?_) (fun h4 => ?_)
        · have m : meP (eb (S 12)) d v = (false, eb (S 12)) := by unfold meP; rw [if_neg (by omega), e3g_eb _ (by omega), if_neg (by omega), decide_eq_false (by omega)]
          refine z_iconst hc ((nI 0)) dX0_meets_66 (by decide) ?_
          exact z_iret hc hr (narZ 0 (by decide)) dX0_meets_67 (⟨congrArg (fun z : Bool × E3 => nI z.1.toNat) m.symm, congrArg Prod.snd m.symm, fun _ _ => rfl, k1⟩)
        · have m : meP (eb (S 12)) d v = (true, eb (S 12)) := by unfold meP; rw [if_neg (by omega), e3g_eb _ (by omega), if_neg (by omega), decide_eq_true (by omega)]
          refine z_iconst hc ((nI 1)) dX0_meets_62 (by decide) ?_
          refine z_goto hc 67 dX0_meets_63 (by decide) ?_
          exact z_iret hc hr (narZ 1 (by decide)) dX0_meets_67 (⟨congrArg (fun z : Bool × E3 => nI z.1.toNat) m.symm, congrArg Prod.snd m.symm, fun _ _ => rfl, k1⟩)
      · have m : meP (eb (S 12)) d v = (true, e3s (eb (S 12)) (d - 4) v) := by unfold meP; rw [if_neg (by omega), e3g_eb _ (by omega), if_pos (by omega)]
        refine z_aload_n hc dX0_meets_42 0 rfl rfl ?_
        refine z_eget hc 12 (by decide) q43 rfl dX0_meets_43 ?_
        refine z_iload_n hc dX0_meets_46 3 rfl rfl ?_
        refine z_iload_n hc dX0_meets_47 2 rfl rfl ?_
        refine z_i2b hc dX0_meets_48 (by omega) ?_
        refine z_bast (q0 := 12) (N := 3) (f := S 12) hc rfl (show d - 4 < 3 by omega) (by decide) (show v < 128 by omega) (eW_set12 _ _ _ _ _) dX0_meets_49 ?_
        refine z_iconst hc ((nI 1)) dX0_meets_50 (by decide) ?_
        exact z_iret hc hr (narZ 1 (by decide)) dX0_meets_51 (⟨congrArg (fun z : Bool × E3 => nI z.1.toNat) m.symm, by rw [up2_s, eb_up _ _ (by omega), m], fun i hi => up2_n hi, k1.up 12 _ (show v < 5 by omega)⟩)
    · refine z_iload_n hc dX0_meets_11 1 rfl rfl ?_
      refine z_bipush hc ((nI 7)) dX0_meets_12 (by decide) ?_
      refine z_icmp_eq hc 22 dX0_meets_14 (by decide) (toInt_nI (by omega)) (toInt_nI (by omega)) (fun h3 => ?_) (fun h3 => ?_)
      · have m : meP (eb (S 12)) d v = (true, eb (S 12)) := by unfold meP; rw [if_pos (by omega), decide_eq_true (by omega)]
        refine z_iconst hc ((nI 1)) dX0_meets_22 (by decide) ?_
        refine z_goto hc 27 dX0_meets_23 (by decide) ?_
        exact z_iret hc hr (narZ 1 (by decide)) dX0_meets_27 (⟨congrArg (fun z : Bool × E3 => nI z.1.toNat) m.symm, congrArg Prod.snd m.symm, fun _ _ => rfl, k1⟩)
      · exfalso
        omega
theorem e_fits (l : Launch) (K : zK) (q : Nat → Nat) (S : ES) (cell f : Nat) (keep : Bool) (k1 : eOK S) (k2 : cell < 9) (k3 : f < 7) : zMi l yX0_fits cX0_fits 6 (some .boolean) (rmH 1) K (eW K q) S [.ref (q 0), .int (nI cell), .int (nI f), .int (nI keep.toNat)] (fun r S' => r = nI (fiP S (eb (S 11)) cell f).1.toNat ∧ eb (S' 11) = (if (keep && (fiP S (eb (S 11)) cell f).1) = true then (fiP S (eb (S 11)) cell f).2 else eb (S 11)) ∧ eqx S S' ∧ eOK S') := by
  refine z_entryI RX0 (by decide) rfl (Nat.le_of_ble_eq_true rfl) (lv := [(0, .ref (q 0)), (1, .int (nI cell)), (2, .int (nI f)), (3, .int (nI keep.toNat))]) rfl (fun X hK hl hc hr => ?_)
  subst hK; subst hl
  have b1 : S 1 f < 3 := k1 1 f
  have b2 : S 2 f < 4 := k1 2 f
  have b3 : S 3 f < 4 := k1 3 f
  have b5 : S 5 cell < 3 := k1 5 cell
  have b6 : S 6 cell < 8 := k1 6 cell
  have b7 : S 7 cell < 8 := k1 7 cell
  have J : ∀ (S3 : ES) (g : Bool), g = (fiP S (eb (S 11)) cell f).1 → (g = true → eb (S3 12) = (fiP S (eb (S 11)) cell f).2) → (∀ i, i ≠ 12 → S3 i = S i) → eOK S3 → zG X (eW (zx_K X) q) 6 S3 [(0, .ref (q 0)), (1, .int (nI cell)), (2, .int (nI f)), (3, .int (nI keep.toNat))] 89 [.int (nI g.toNat)] := by
    intro S3 g hg he hs ok
    refine z_istore (lv' := [(0, .ref (q 0)), (1, .int (nI cell)), (2, .int (nI f)), (3, .int (nI keep.toNat)), (4, .int (nI g.toNat))]) hc dX0_fits_89 (by decide) rfl ?_
    refine z_iconst hc ((nI 0)) dX0_fits_91 (by decide) ?_
    refine z_istore (lv' := [(0, .ref (q 0)), (1, .int (nI cell)), (2, .int (nI f)), (3, .int (nI keep.toNat)), (4, .int (nI g.toNat)), (5, .int (nI 0))]) hc dX0_fits_92 (by decide) rfl ?_
    have L : ∀ (i : Nat) (S4 : ES), i ≤ 3 → ((∀ j, S4 11 j = if j < i then S3 12 j else S3 11 j) ∧ (∀ k, k ≠ 11 → S4 k = S3 k) ∧ eOK S4 ∧ (i = 0 ∨ (g = true ∧ keep = true))) → zG X (eW (zx_K X) q) 6 S4 [(0, .ref (q 0)), (1, .int (nI cell)), (2, .int (nI f)), (3, .int (nI keep.toNat)), (4, .int (nI g.toNat)), (5, .int (nI i))] 94 [] := by
      refine z_loop 3 _ _ (fun i S4 hi hI ih => ?_)
      obtain ⟨i1, i2, i3, i4⟩ := hI
      refine z_iload hc dX0_fits_94 5 rfl ?_
      refine z_iconst hc ((nI 3)) dX0_fits_96 (by decide) ?_
      refine z_icmp_ge hc 129 dX0_fits_97 (by decide) (toInt_nI (by omega)) (toInt_nI (by omega)) (fun h1 => ?_) (fun h1 => ?_)
      · obtain ⟨rfl, rfl⟩ : g = true ∧ keep = true := i4.elim (fun h => absurd h (by omega)) id
        refine z_iload hc dX0_fits_129 4 rfl ?_
        exact z_iret hc hr (narZ _ (by exact Bool.toNat_lt _)) dX0_fits_131 (⟨bz hg.symm, by rw [← hg, if_pos (show (true && true) = true from rfl), ← he rfl]; exact eb_eq (fun j hj => by rw [i1 j, if_pos (by omega)]), fun k hk => (i2 k (by omega)).trans (hs k (by omega)), i3⟩)
      · refine z_iload hc dX0_fits_100 4 rfl ?_
        refine z_ifeqB hc 129 dX0_fits_102 (by decide) (fun h2 => ?_) (fun h2 => ?_)
        · have e0 : i = 0 := i4.elim id (fun h0 => absurd (h0.1.symm.trans h2) (by decide))
          refine z_iload hc dX0_fits_129 4 rfl ?_
          exact z_iret hc hr (narZ _ (by exact Bool.toNat_lt _)) dX0_fits_131 (⟨bz hg.symm, by rw [← hg, if_neg (by rw [h2]; cases keep <;> decide)]; exact eb_eq (fun j hj => by rw [i1 j, if_neg (by omega), hs 11 (by decide)]), fun k hk => (i2 k (by omega)).trans (hs k (by omega)), i3⟩)
        · refine z_iload_n hc dX0_fits_105 3 rfl rfl ?_
          refine z_ifeqB hc 129 dX0_fits_106 (by decide) (fun h3 => ?_) (fun h3 => ?_)
          · have e0 : i = 0 := i4.elim id (fun h0 => absurd (h0.2.symm.trans h3) (by decide))
            refine z_iload hc dX0_fits_129 4 rfl ?_
            exact z_iret hc hr (narZ _ (by exact Bool.toNat_lt _)) dX0_fits_131 (⟨bz hg.symm, by rw [← hg, if_neg (by rw [h3]; cases g <;> decide)]; exact eb_eq (fun j hj => by rw [i1 j, if_neg (by omega), hs 11 (by decide)]), fun k hk => (i2 k (by omega)).trans (hs k (by omega)), i3⟩)
          · have b12 : S4 12 i < 5 := i3 12 i
            refine z_aload_n hc dX0_fits_109 0 rfl rfl ?_
            refine z_eget hc 11 (by decide) q42 rfl dX0_fits_110 ?_
            refine z_iload hc dX0_fits_113 5 rfl ?_
            refine z_aload_n hc dX0_fits_115 0 rfl rfl ?_
            refine z_eget hc 12 (by decide) q43 rfl dX0_fits_116 ?_
            refine z_iload hc dX0_fits_119 5 rfl ?_
            refine z_bald (q0 := 12) (N := 3) (f := S4 12) hc rfl (show i < 3 by omega) (by decide) dX0_fits_121 ?_
            refine z_bast (q0 := 11) (N := 3) (f := S4 11) hc rfl (show i < 3 by omega) (by decide) (show S4 12 i < 128 by omega) (eW_set11 _ _ _ _ _) dX0_fits_122 ?_
            refine z_iinc (a := i) (lv' := [(0, .ref (q 0)), (1, .int (nI cell)), (2, .int (nI f)), (3, .int (nI keep.toNat)), (4, .int (nI g.toNat)), (5, .int (nI (i + 1)))]) hc dX0_fits_123 5 rfl (by decide) rfl ?_
            refine z_goto hc 94 dX0_fits_126 (by decide) ?_
            refine ih (by omega) _ ⟨fun j => ?_, fun k hk => (up2_n hk).trans (i2 k hk), i3.up 11 _ b12, Or.inr ⟨h2, h3⟩⟩
            rw [up2_s, i2 12 (by decide)]
            by_cases e : j = i
            · rw [e, updN_s, if_pos (by omega)]
            · rw [updN_n e, i1 j]
              by_cases e2 : j < i
              · rw [if_pos e2, if_pos (by omega)]
              · rw [if_neg e2, if_neg (by omega)]
    exact L 0 S3 (by decide) ⟨fun j => (if_neg (Nat.not_lt_zero j)).symm, fun _ _ => rfl, ok, Or.inl rfl⟩
  refine z_aload_n hc dX0_fits_0 0 rfl rfl ?_
  refine z_eget hc 1 (by decide) q32 rfl dX0_fits_1 ?_
  refine z_iload_n hc dX0_fits_4 2 rfl rfl ?_
  refine z_bald (q0 := 1) (N := 7) (f := S 1) hc rfl (show f < 7 by omega) (by decide) dX0_fits_5 ?_
  refine z_aload_n hc dX0_fits_6 0 rfl rfl ?_
  refine z_eget hc 5 (by decide) q36 rfl dX0_fits_7 ?_
  refine z_iload_n hc dX0_fits_10 1 rfl rfl ?_
  refine z_bald (q0 := 5) (N := 9) (f := S 5) hc rfl (show cell < 9 by omega) (by decide) dX0_fits_11 ?_
  refine z_icmp_eq hc 17 dX0_fits_12 (by decide) (toInt_nI (by omega)) (toInt_nI (by omega)) (fun h0 => ?_) (fun h0 => ?_)
  · have h0 : S 1 f = S 5 cell := by omega
    refine z_iconst hc ((nI 0)) dX0_fits_17 (by decide) ?_
    refine z_istore (lv' := [(0, .ref (q 0)), (1, .int (nI cell)), (2, .int (nI f)), (3, .int (nI keep.toNat)), (4, .int (nI 0))]) hc dX0_fits_18 (by decide) rfl ?_
    have L : ∀ (i : Nat) (S1 : ES), i ≤ 3 → ((∀ j, j < i → S1 12 j = S 11 j) ∧ (∀ k, k ≠ 12 → S1 k = S k) ∧ eOK S1) → zG X (eW (zx_K X) q) 6 S1 [(0, .ref (q 0)), (1, .int (nI cell)), (2, .int (nI f)), (3, .int (nI keep.toNat)), (4, .int (nI i))] 20 [] := by
      refine z_loop 3 _ _ (fun i S1 hi hI ih => ?_)
      obtain ⟨i1, i2, i3⟩ := hI
      refine z_iload hc dX0_fits_20 4 rfl ?_
      refine z_iconst hc ((nI 3)) dX0_fits_22 (by decide) ?_
      refine z_icmp_ge hc 46 dX0_fits_23 (by decide) (toInt_nI (by omega)) (toInt_nI (by omega)) (fun h1 => ?_) (fun h1 => ?_)
      · have ev : eb (S1 12) = eb (S 11) := eb_eq (fun j hj => i1 j (by omega))
        have e2 : S1 2 = S 2 := i2 2 (by decide)
        have e3 : S1 3 = S 3 := i2 3 (by decide)
        have e6 : S1 6 = S 6 := i2 6 (by decide)
        have e7 : S1 7 = S 7 := i2 7 (by decide)
        refine z_aload_n hc dX0_fits_46 0 rfl rfl ?_
        refine z_aload_n hc dX0_fits_47 0 rfl rfl ?_
        refine z_eget hc 6 (by decide) q37 rfl dX0_fits_48 ?_
        refine z_iload_n hc dX0_fits_51 1 rfl rfl ?_
        refine z_bald (q0 := 6) (N := 9) (f := S1 6) hc rfl (show cell < 9 by omega) (by decide) dX0_fits_52 ?_
        refine z_aload_n hc dX0_fits_53 0 rfl rfl ?_
        refine z_eget hc 2 (by decide) q33 rfl dX0_fits_54 ?_
        refine z_iload_n hc dX0_fits_57 2 rfl rfl ?_
        refine z_bald (q0 := 2) (N := 7) (f := S1 2) hc rfl (show f < 7 by omega) (by decide) dX0_fits_58 ?_
        refine z_callVi (ci := 0) (q0 := 0) (As := [.int (nI (S1 6 cell)), .int (nI (S1 2 f))]) (rest := []) hc (e_meets _ _ q S1 (S1 6 cell) (S1 2 f) i3 (by rw [e6]; exact b6) (by rw [e2]; exact b2)) gX0_meets aX0_meets (by decide) rfl rfl rfl rfl (Nat.le_of_ble_eq_true rfl) dX0_fits_59 (fun r1 S2 h2 => ?_)
        obtain ⟨g1, g2, g3, g4⟩ := h2
        rw [ev, e6, e2] at g1 g2
        rw [g1]
        refine z_ifeqB hc 88 dX0_fits_62 (by decide) (fun h3 => ?_) (fun h3 => ?_)
        · have m : fiP S (eb (S 11)) cell f = (false, (meP (eb (S 11)) (S 6 cell) (S 2 f)).2) := by unfold fiP; rw [if_pos h0, if_neg (by rw [h3]; decide)]
          refine z_iconst hc ((nI 0)) dX0_fits_88 (by decide) ?_
          refine z_sub [0, 1, 2, 3] rfl ?_
          exact J S2 false (by rw [m]) (fun h => by cases h) (fun i hi => (g3 i hi).trans (i2 i hi)) g4
        · have u3 : S2 3 = S 3 := (g3 3 (by decide)).trans e3
          have u7 : S2 7 = S 7 := (g3 7 (by decide)).trans e7
          refine z_aload_n hc dX0_fits_65 0 rfl rfl ?_
          refine z_aload_n hc dX0_fits_66 0 rfl rfl ?_
          refine z_eget hc 7 (by decide) q38 rfl dX0_fits_67 ?_
          refine z_iload_n hc dX0_fits_70 1 rfl rfl ?_
          refine z_bald (q0 := 7) (N := 9) (f := S2 7) hc rfl (show cell < 9 by omega) (by decide) dX0_fits_71 ?_
          refine z_aload_n hc dX0_fits_72 0 rfl rfl ?_
          refine z_eget hc 3 (by decide) q34 rfl dX0_fits_73 ?_
          refine z_iload_n hc dX0_fits_76 2 rfl rfl ?_
          refine z_bald (q0 := 3) (N := 7) (f := S2 3) hc rfl (show f < 7 by omega) (by decide) dX0_fits_77 ?_
          refine z_callVi (ci := 0) (q0 := 0) (As := [.int (nI (S2 7 cell)), .int (nI (S2 3 f))]) (rest := []) hc (e_meets _ _ q S2 (S2 7 cell) (S2 3 f) g4 (by rw [u7]; exact b7) (by rw [u3]; exact b3)) gX0_meets aX0_meets (by decide) rfl rfl rfl rfl (Nat.le_of_ble_eq_true rfl) dX0_fits_78 (fun r2 S3 h4 => ?_)
          obtain ⟨g5, g6, g7, g8⟩ := h4
          rw [g2, u7, u3] at g5 g6
          rw [g5]
          have m : fiP S (eb (S 11)) cell f = meP (meP (eb (S 11)) (S 6 cell) (S 2 f)).2 (S 7 cell) (S 3 f) := by unfold fiP; rw [if_pos h0, if_pos h3]
          refine z_ifeqB hc 88 dX0_fits_81 (by decide) (fun h5 => ?_) (fun h5 => ?_)
          · refine z_iconst hc ((nI 0)) dX0_fits_88 (by decide) ?_
            refine z_sub [0, 1, 2, 3] rfl ?_
            exact J S3 false (by rw [m, h5]) (fun _ => by rw [m, g6]) (fun i hi => (g7 i hi).trans ((g3 i hi).trans (i2 i hi))) g8
          · refine z_iconst hc ((nI 1)) dX0_fits_84 (by decide) ?_
            refine z_goto hc 89 dX0_fits_85 (by decide) ?_
            refine z_sub [0, 1, 2, 3] rfl ?_
            exact J S3 true (by rw [m, h5]) (fun _ => by rw [m, g6]) (fun i hi => (g7 i hi).trans ((g3 i hi).trans (i2 i hi))) g8
      · have b11 : S1 11 i < 5 := i3 11 i
        refine z_aload_n hc dX0_fits_26 0 rfl rfl ?_
        refine z_eget hc 12 (by decide) q43 rfl dX0_fits_27 ?_
        refine z_iload hc dX0_fits_30 4 rfl ?_
        refine z_aload_n hc dX0_fits_32 0 rfl rfl ?_
        refine z_eget hc 11 (by decide) q42 rfl dX0_fits_33 ?_
        refine z_iload hc dX0_fits_36 4 rfl ?_
        refine z_bald (q0 := 11) (N := 3) (f := S1 11) hc rfl (show i < 3 by omega) (by decide) dX0_fits_38 ?_
        refine z_bast (q0 := 12) (N := 3) (f := S1 12) hc rfl (show i < 3 by omega) (by decide) (show S1 11 i < 128 by omega) (eW_set12 _ _ _ _ _) dX0_fits_39 ?_
        refine z_iinc (a := i) (lv' := [(0, .ref (q 0)), (1, .int (nI cell)), (2, .int (nI f)), (3, .int (nI keep.toNat)), (4, .int (nI (i + 1)))]) hc dX0_fits_40 4 rfl (by decide) rfl ?_
        refine z_goto hc 20 dX0_fits_43 (by decide) ?_
        refine ih (by omega) _ ⟨fun j hj => ?_, fun k hk => (up2_n hk).trans (i2 k hk), i3.up 12 _ b11⟩
        rw [up2_s, i2 11 (by decide)]
        by_cases e : j = i
        · rw [e, updN_s]
        · rw [updN_n e, i1 j (by omega)]
    exact L 0 S (by decide) ⟨fun j hj => absurd hj (Nat.not_lt_zero j), fun _ _ => rfl, k1⟩
  · have m : fiP S (eb (S 11)) cell f = (false, eb (S 11)) := if_neg (by omega)
    refine z_iconst hc ((nI 0)) dX0_fits_15 (by decide) ?_
    exact z_iret hc hr (narZ 0 (by decide)) dX0_fits_16 (⟨congrArg (fun z : Bool × E3 => nI z.1.toNat) m.symm, by rw [m, if_neg (by cases keep <;> exact fun h => Bool.false_ne_true h)], eqx.rf, k1⟩)
theorem e_bindAlong (l : Launch) (K : zK) (q : Nat → Nat) (S : ES) (r level code : Nat) (k1 : eOK S) (k2 : r < 3) (k3 : level < 3) (k4 : code < 2 ^ 31) : zMv l yX0_bindAlong cX0_bindAlong 6 none (rmH 2) K (eW K q) S [.ref (q 0), .int (nI r), .int (nI level), .int (nI code)] (fun S' => eb (S' 11) = bnP S r code level ∧ eqx S S' ∧ eOK S') := by
  refine z_entryV RX0 (by decide) rfl (Nat.le_of_ble_eq_true rfl) (lv := [(0, .ref (q 0)), (1, .int (nI r)), (2, .int (nI level)), (3, .int (nI code))]) rfl (fun X hK hl hc hr => ?_)
  subst hK; subst hl
  have L2 : ∀ (i : Nat) (S1 : ES), i ≤ level → (eb (S1 11) = bnP S r code i ∧ eqx S S1 ∧ eOK S1) → zG X (eW (zx_K X) q) 6 S1 [(0, .ref (q 0)), (1, .int (nI r)), (2, .int (nI level)), (3, .int (nI code)), (4, .int (nI i))] 26 [] := by
    refine z_loop level _ _ (fun i S1 hi hI ih => ?_)
    obtain ⟨i1, i2, i3⟩ := hI
    refine z_iload hc dX0_bindAlong_26 4 rfl ?_
    refine z_iload_n hc dX0_bindAlong_28 2 rfl rfl ?_
    refine z_icmp_ge hc 70 dX0_bindAlong_29 (by decide) (toInt_nI (by omega)) (toInt_nI (by omega)) (fun h1 => ?_) (fun h1 => ?_)
    · have e : i = level := by omega
      subst e
      exact z_vret hc hr dX0_bindAlong_70 (⟨i1, i2, i3⟩)
    · refine z_iload_n hc dX0_bindAlong_32 3 rfl rfl ?_
      refine z_iconst hc ((nI 3)) dX0_bindAlong_33 (by decide) ?_
      refine z_iload hc dX0_bindAlong_34 4 rfl ?_
      refine z_imul (a := 3) (b := i) hc dX0_bindAlong_36 ?_
      refine z_ishr hc dX0_bindAlong_37 (8 ^ i) (pow8 i) (by omega) (by omega) ?_
      refine z_bipush hc ((nI 7)) dX0_bindAlong_38 (by decide) ?_
      refine z_iandm hc 3 8 dX0_bindAlong_40 (by decide) (by decide) ?_
      refine z_istore (lv' := [(0, .ref (q 0)), (1, .int (nI r)), (2, .int (nI level)), (3, .int (nI code)), (4, .int (nI i)), (5, .int (nI ((code / 8 ^ i) % 8)))]) hc dX0_bindAlong_41 (by decide) rfl ?_
      refine z_iload hc dX0_bindAlong_43 5 rfl ?_
      refine z_bipush hc ((nI 7)) dX0_bindAlong_45 (by decide) ?_
      refine z_icmp_eq hc 64 dX0_bindAlong_47 (by decide) (toInt_nI (by omega)) (toInt_nI (by omega)) (fun h2 => ?_) (fun h2 => ?_)
      · have h7 : dig code i = 7 := by unfold dig; omega
        refine z_iinc (a := i) (lv' := [(0, .ref (q 0)), (1, .int (nI r)), (2, .int (nI level)), (3, .int (nI code)), (4, .int (nI (i + 1))), (5, .int (nI ((code / 8 ^ i) % 8)))]) hc dX0_bindAlong_64 4 rfl (by decide) rfl ?_
        refine z_goto hc 26 dX0_bindAlong_67 (by decide) ?_
        refine z_sub [0, 1, 2, 3, 4] rfl ?_
        exact ih (by omega) S1 ⟨by rw [i1]; show _ = (if dig code i = 7 then _ else _); rw [if_pos h7], i2, i3⟩
      · have h7 : ¬ dig code i = 7 := by unfold dig; omega
        have h8 := dig_lt code i
        refine z_aload_n hc dX0_bindAlong_50 0 rfl rfl ?_
        refine z_iload_n hc dX0_bindAlong_51 1 rfl rfl ?_
        refine z_iconst hc ((nI 3)) dX0_bindAlong_52 (by decide) ?_
        refine z_imul (a := r) (b := 3) hc dX0_bindAlong_53 ?_
        refine z_iload hc dX0_bindAlong_54 4 rfl ?_
        refine z_iadd (a := r * 3) (b := i) hc dX0_bindAlong_56 ?_
        refine z_iload hc dX0_bindAlong_57 5 rfl ?_
        refine z_iconst hc ((nI 1)) dX0_bindAlong_59 (by decide) ?_
        refine z_callVi (ci := 0) (q0 := 0) (As := [.int (nI ((r * 3) + i)), .int (nI ((code / 8 ^ i) % 8)), .int (nI 1)]) (rest := []) hc (e_fits _ _ q S1 (r * 3 + i) (dig code i) true i3 (by omega) (by omega)) gX0_fits aX0_fits (by decide) rfl rfl rfl rfl (Nat.le_of_ble_eq_true rfl) dX0_bindAlong_60 (fun r1 S2 h3 => ?_)
        obtain ⟨-, g2, g3, g4⟩ := h3
        refine z_pop hc dX0_bindAlong_63 rfl ?_
        refine z_iinc (a := i) (lv' := [(0, .ref (q 0)), (1, .int (nI r)), (2, .int (nI level)), (3, .int (nI code)), (4, .int (nI (i + 1))), (5, .int (nI ((code / 8 ^ i) % 8)))]) hc dX0_bindAlong_64 4 rfl (by decide) rfl ?_
        refine z_goto hc 26 dX0_bindAlong_67 (by decide) ?_
        refine z_sub [0, 1, 2, 3, 4] rfl ?_
        refine ih (by omega) S2 ⟨?_, i2.tr g3, g4⟩
        rw [i1, fiP_c i2.lo, Bool.true_and] at g2
        rw [g2]
        show _ = (if dig code i = 7 then _ else _)
        rw [if_neg h7]
  refine z_iconst hc ((nI 0)) dX0_bindAlong_0 (by decide) ?_
  refine z_istore (lv' := [(0, .ref (q 0)), (1, .int (nI r)), (2, .int (nI level)), (3, .int (nI code)), (4, .int (nI 0))]) hc dX0_bindAlong_1 (by decide) rfl ?_
  have L1 : ∀ (i : Nat) (S1 : ES), i ≤ 3 → ((∀ j, j < i → S1 11 j = 4) ∧ (∀ k, k ≠ 11 → S1 k = S k) ∧ eOK S1) → zG X (eW (zx_K X) q) 6 S1 [(0, .ref (q 0)), (1, .int (nI r)), (2, .int (nI level)), (3, .int (nI code)), (4, .int (nI i))] 3 [] := by
    refine z_loop 3 _ _ (fun i S1 hi hI ih => ?_)
    obtain ⟨i1, i2, i3⟩ := hI
    refine z_iload hc dX0_bindAlong_3 4 rfl ?_
    refine z_iconst hc ((nI 3)) dX0_bindAlong_5 (by decide) ?_
    refine z_icmp_ge hc 23 dX0_bindAlong_6 (by decide) (toInt_nI (by omega)) (toInt_nI (by omega)) (fun h1 => ?_) (fun h1 => ?_)
    · refine z_iconst hc ((nI 0)) dX0_bindAlong_23 (by decide) ?_
      refine z_istore (lv' := [(0, .ref (q 0)), (1, .int (nI r)), (2, .int (nI level)), (3, .int (nI code)), (4, .int (nI 0))]) hc dX0_bindAlong_24 (by decide) rfl ?_
      refine L2 0 S1 (Nat.zero_le _) ⟨?_, fun k hk => i2 k (by omega), i3⟩
      show eb (S1 11) = (4, 4, 4)
      unfold eb
      rw [i1 0 (by omega), i1 1 (by omega), i1 2 (by omega)]
    · refine z_aload_n hc dX0_bindAlong_9 0 rfl rfl ?_
      refine z_eget hc 11 (by decide) q42 rfl dX0_bindAlong_10 ?_
      refine z_iload hc dX0_bindAlong_13 4 rfl ?_
      refine z_iconst hc ((nI 4)) dX0_bindAlong_15 (by decide) ?_
      refine z_bast (q0 := 11) (N := 3) (f := S1 11) hc rfl (show i < 3 by omega) (by decide) (show 4 < 128 by omega) (eW_set11 _ _ _ _ _) dX0_bindAlong_16 ?_
      refine z_iinc (a := i) (lv' := [(0, .ref (q 0)), (1, .int (nI r)), (2, .int (nI level)), (3, .int (nI code)), (4, .int (nI (i + 1)))]) hc dX0_bindAlong_17 4 rfl (by decide) rfl ?_
      refine z_goto hc 3 dX0_bindAlong_20 (by decide) ?_
      refine ih (by omega) _ ⟨fun j hj => ?_, fun k hk => (up2_n hk).trans (i2 k hk), i3.up 11 _ (show 4 < 5 by decide)⟩
      rw [up2_s]
      by_cases e : j = i
      · rw [e, updN_s]
      · rw [updN_n e, i1 j (by omega)]
  exact L1 0 S (by decide) ⟨fun j hj => absurd hj (Nat.not_lt_zero j), fun _ _ => rfl, k1⟩
theorem e_anyFits (l : Launch) (K : zK) (q : Nat → Nat) (S : ES) (cell : Nat) (k1 : eOK S) (k2 : cell < 9) : zMi l yX0_anyFits cX0_anyFits 3 (some .boolean) (rmH 2) K (eW K q) S [.ref (q 0), .int (nI cell)] (fun r S' => r = nI (anP S (eb (S 11)) cell 7).toNat ∧ eb (S' 11) = eb (S 11) ∧ eqx S S' ∧ eOK S') := by
  refine z_entryI RX0 (by decide) rfl (Nat.le_of_ble_eq_true rfl) (lv := [(0, .ref (q 0)), (1, .int (nI cell))]) rfl (fun X hK hl hc hr => ?_)
  subst hK; subst hl
  refine z_iconst hc ((nI 0)) dX0_anyFits_0 (by decide) ?_
  refine z_istore_n (lv' := [(0, .ref (q 0)), (1, .int (nI cell)), (2, .int (nI 0))]) hc dX0_anyFits_1 rfl (by decide) rfl ?_
  have L : ∀ (g : Nat) (S1 : ES), g ≤ 7 → (anP S (eb (S 11)) cell g = false ∧ eb (S1 11) = eb (S 11) ∧ eqx S S1 ∧ eOK S1) → zG X (eW (zx_K X) q) 3 S1 [(0, .ref (q 0)), (1, .int (nI cell)), (2, .int (nI g))] 2 [] := by
    refine z_loop 7 _ _ (fun g S1 hg hI ih => ?_)
    obtain ⟨i1, i2, i3, i4⟩ := hI
    refine z_iload_n hc dX0_anyFits_2 2 rfl rfl ?_
    refine z_bipush hc ((nI 7)) dX0_anyFits_3 (by decide) ?_
    refine z_icmp_ge hc 34 dX0_anyFits_5 (by decide) (toInt_nI (by omega)) (toInt_nI (by omega)) (fun h1 => ?_) (fun h1 => ?_)
    · have e : g = 7 := by omega
      subst e
      refine z_iconst hc ((nI 0)) dX0_anyFits_34 (by decide) ?_
      exact z_iret hc hr (narZ 0 (by decide)) dX0_anyFits_35 (⟨bz i1, i2, i3, i4⟩)
    · refine z_aload_n hc dX0_anyFits_8 0 rfl rfl ?_
      refine z_iload_n hc dX0_anyFits_9 2 rfl rfl ?_
      refine z_callVi (ci := 0) (q0 := 0) (As := [.int (nI g)]) (rest := []) hc (e_has _ _ q S1 (nI g) i4) gX0_has aX0_has (by decide) rfl rfl rfl rfl (Nat.le_of_ble_eq_true rfl) dX0_anyFits_10 (fun rx Sx h2 => ?_)
      rw [h2.1, h2.2, hasI_n (by omega), hsN_c i3.lo]
      refine z_ifeqB hc 28 dX0_anyFits_13 (by decide) (fun h3 => ?_) (fun h3 => ?_)
      · refine z_iinc (a := g) (lv' := [(0, .ref (q 0)), (1, .int (nI cell)), (2, .int (nI (g + 1)))]) hc dX0_anyFits_28 2 rfl (by decide) rfl ?_
        refine z_goto hc 2 dX0_anyFits_31 (by decide) ?_
        exact ih (by omega) S1 ⟨by unfold anP; rw [i1, h3]; rfl, i2, i3, i4⟩
      · refine z_aload_n hc dX0_anyFits_16 0 rfl rfl ?_
        refine z_iload_n hc dX0_anyFits_17 1 rfl rfl ?_
        refine z_iload_n hc dX0_anyFits_18 2 rfl rfl ?_
        refine z_iconst hc ((nI 0)) dX0_anyFits_19 (by decide) ?_
        refine z_callVi (ci := 0) (q0 := 0) (As := [.int (nI cell), .int (nI g), .int (nI 0)]) (rest := []) hc (e_fits _ _ q S1 cell g false i4 k2 (by omega)) gX0_fits aX0_fits (by decide) rfl rfl rfl rfl (Nat.le_of_ble_eq_true rfl) dX0_anyFits_20 (fun r1 S2 h4 => ?_)
        obtain ⟨g1, g2, g3, g4⟩ := h4
        rw [i2, fiP_c i3.lo] at g1 g2
        rw [Bool.false_and, if_neg (by decide)] at g2
        rw [g1]
        refine z_ifeqB hc 28 dX0_anyFits_23 (by decide) (fun h5 => ?_) (fun h5 => ?_)
        · refine z_iinc (a := g) (lv' := [(0, .ref (q 0)), (1, .int (nI cell)), (2, .int (nI (g + 1)))]) hc dX0_anyFits_28 2 rfl (by decide) rfl ?_
          refine z_goto hc 2 dX0_anyFits_31 (by decide) ?_
          exact ih (by omega) S2 ⟨by unfold anP; rw [i1, h3, h5]; rfl, g2, i3.tr g3, g4⟩
        · refine z_iconst hc ((nI 1)) dX0_anyFits_26 (by decide) ?_
          exact z_iret hc hr (narZ 1 (by decide)) dX0_anyFits_27 (⟨bz (anP_mono (i := g + 1) (by unfold anP; rw [i1, h3, h5]; rfl) (by omega)), g2, i3.tr g3, g4⟩)
  exact L 0 S (by decide) ⟨rfl, rfl, eqx.rf, k1⟩
end
section
/-! extendNegated, extend: walks printed by w13.py -/
set_option maxRecDepth 100000
theorem wix_r {a b c : Nat} (hb : b ≤ 3) (hc : c < 8 ^ b) : a * 11 ≤ wix a b c ∧ wix a b c < a * 11 + 11 := by
  unfold wix
  rcases (show b = 0 ∨ b = 1 ∨ b = 2 ∨ b = 3 by omega) with rfl | rfl | rfl | rfl
  · have : c < 1 := hc
    omega
  · have : c < 8 := hc
    omega
  · have : c < 64 := hc
    omega
  · have : c < 512 := hc
    omega
theorem wix_lt {a b c : Nat} (ha : a < 3) (hb : b ≤ 3) (hc : c < 8 ^ b) : wix a b c < 33 := by
  have := (wix_r (a := a) hb hc).2
  omega
theorem bitW_c {f g : Nat → Nat} {a b c : Nat} (h : ∀ j, a * 11 ≤ j → j < a * 11 + 11 → f j = g j) (hb : b ≤ 3) (hc : c < 8 ^ b) : bitW f a b c = bitW g a b c := by
  unfold bitW
  rw [h _ (wix_r hb hc).1 (wix_r hb hc).2]
theorem tn_nI {k : Nat} (h : k < 2 ^ 31) : (nI k).toInt.toNat = k := by rw [toInt_nI h, Int.toNat_natCast]
theorem put_ok {S : ES} (h : eOK S) (w c : Nat) : eOK (up2 S 9 w (S 9 w ||| 2 ^ (c % 64))) := h.up 9 w (show S 9 w ||| 2 ^ (c % 64) < 2 ^ 64 from Nat.or_lt_two_pow (h 9 w) (wb_lt2 (Nat.mod_lt _ (by decide))))
theorem put_9 (S : ES) (a b c : Nat) : up2 S 9 (wix a b c) (S 9 (wix a b c) ||| 2 ^ (c % 64)) 9 = putW (S 9) a b c := up2_s
theorem exN_c {S S' : ES} (h : ∀ i, i < 9 → S' i = S i) (Bf : Nat → Nat) (e : E3) (r level code : Nat) (old : Bool) (f : Nat) (added : Bool) : exN S' Bf e r level code old f added = exN S Bf e r level code old f added := by
  unfold exN
  rw [fiP_c h, anP_c h]
theorem e_extendNegated (l : Launch) (K : zK) (q : Nat → Nat) (S : ES) (r level code : Nat) (old : Bool) (f : Int32) (added : Bool) (Bf : Nat → Nat) (k1 : eOK S) (k2 : r < 3) (k3 : level < 3) (k4 : code < 8 ^ level) (k5 : old = true → ∃ k : Nat, k < 7 ∧ f = nI k) (k6 : ∀ j, r * 11 ≤ j → j < r * 11 + 11 → S 10 j = Bf j) : zMv l yX0_extendNegated cX0_extendNegated 11 none (rmH 3) K (eW K q) S [.ref (q 0), .int (nI (r * 3 + level)), .int (nI code), .int (nI level), .int (nI old.toNat), .int f, .int (nI added.toNat)] (fun S' => S' 9 = (if exN S Bf (eb (S 11)) r level code old f.toInt.toNat added = true then putW (S 9) r (level + 1) (nxc code level 7) else S 9) ∧ (∀ i, i < 11 → i ≠ 9 → S' i = S i) ∧ eOK S') := by
  refine z_entryV RX0 (by decide) rfl (Nat.le_of_ble_eq_true rfl) (lv := [(0, .ref (q 0)), (1, .int (nI (r * 3 + level))), (2, .int (nI code)), (3, .int (nI level)), (4, .int (nI old.toNat)), (5, .int f), (6, .int (nI added.toNat))]) rfl (fun X hK hl hc hr => ?_)
  subst hK; subst hl
  have c1 := p8_le (L := level) (by omega)
  have c2 : 8 ^ (level + 1) ≤ 512 := p8_le (by omega)
  have c3 : nxc code level 7 < 8 ^ (level + 1) := nxc_lt k4 (by decide)
  have c4 : wix r (level + 1) (nxc code level 7) < 33 := wix_lt k2 (by omega) c3
  refine z_iload_n hc dX0_extendNegated_0 1 rfl rfl ?_
  refine z_iconst hc ((nI 3)) dX0_extendNegated_1 (by decide) ?_
  refine z_idiv (a := r * 3 + level) (b := 3) hc dX0_extendNegated_2 (by omega) (by omega) (by omega) ?_
  refine z_nat (b := r) (by omega) ?_
  refine z_istore (lv' := [(0, .ref (q 0)), (1, .int (nI (r * 3 + level))), (2, .int (nI code)), (3, .int (nI level)), (4, .int (nI old.toNat)), (5, .int f), (6, .int (nI added.toNat)), (7, .int (nI r))]) hc dX0_extendNegated_3 (by decide) rfl ?_
  refine z_iload_n hc dX0_extendNegated_5 2 rfl rfl ?_
  refine z_bipush hc ((nI 7)) dX0_extendNegated_6 (by decide) ?_
  refine z_iconst hc ((nI 3)) dX0_extendNegated_8 (by decide) ?_
  refine z_iload_n hc dX0_extendNegated_9 3 rfl rfl ?_
  refine z_imul (a := 3) (b := level) hc dX0_extendNegated_10 ?_
  refine z_ishl hc dX0_extendNegated_11 (8 ^ level) (pow8 level) (by omega) (by omega) ?_
  refine z_ior (a := code) (b := 7 * 8 ^ level) hc dX0_extendNegated_12 ?_
  refine z_nat (b := nxc code level 7) (rfl) ?_
  refine z_istore (lv' := [(0, .ref (q 0)), (1, .int (nI (r * 3 + level))), (2, .int (nI code)), (3, .int (nI level)), (4, .int (nI old.toNat)), (5, .int f), (6, .int (nI added.toNat)), (7, .int (nI r)), (8, .int (nI (nxc code level 7)))]) hc dX0_extendNegated_13 (by decide) rfl ?_
  have J2 : ∀ (S2 : ES) (op : Bool), op = exN S Bf (eb (S 11)) r level code old f.toInt.toNat added → eqx S S2 → eOK S2 → zG X (eW (zx_K X) q) 11 S2 [(0, .ref (q 0)), (1, .int (nI (r * 3 + level))), (2, .int (nI code)), (3, .int (nI level)), (4, .int (nI old.toNat)), (5, .int f), (6, .int (nI added.toNat)), (7, .int (nI r)), (8, .int (nI (nxc code level 7))), (10, .int (nI op.toNat))] 95 [] := by
    intro S2 op ho hs ok
    refine z_iload hc dX0_extendNegated_95 9 rfl ?_
    refine z_ifeqB hc 111 dX0_extendNegated_97 (by decide) (fun h9 => ?_) (fun h9 => ?_)
    · exact z_vret hc hr dX0_extendNegated_111 (⟨by rw [← ho, h9]; exact hs 9 (by decide), fun i hi _ => hs i hi, ok⟩)
    · refine z_aload_n hc dX0_extendNegated_100 0 rfl rfl ?_
      refine z_iload hc dX0_extendNegated_101 7 rfl ?_
      refine z_iload_n hc dX0_extendNegated_103 3 rfl rfl ?_
      refine z_iconst hc ((nI 1)) dX0_extendNegated_104 (by decide) ?_
      refine z_iadd (a := level) (b := 1) hc dX0_extendNegated_105 ?_
      refine z_iload hc dX0_extendNegated_106 8 rfl ?_
      refine z_callVv (ci := 0) (q0 := 0) (As := [.int (nI r), .int (nI (level + 1)), .int (nI (nxc code level 7))]) (rest := []) hc (e_put _ _ q S2 r (level + 1) (nxc code level 7) ok c4 (by omega)) gX0_put aX0_put (by decide) rfl rfl rfl rfl (Nat.le_of_ble_eq_true rfl) dX0_extendNegated_108 (fun S3 h8 => ?_)
      subst h8
      exact z_vret hc hr dX0_extendNegated_111 (⟨by rw [← ho, h9, if_pos rfl, put_9, hs 9 (by decide)], fun i hi hn => (up2_n hn).trans (hs i hi), put_ok ok _ _⟩)
  have J1 : ∀ wt : Bool, wt = (old && bitW Bf r (level + 1) (nxc code level 7)) → zG X (eW (zx_K X) q) 11 S [(0, .ref (q 0)), (1, .int (nI (r * 3 + level))), (2, .int (nI code)), (3, .int (nI level)), (4, .int (nI old.toNat)), (5, .int f), (6, .int (nI added.toNat)), (7, .int (nI r)), (8, .int (nI (nxc code level 7)))] 39 [.int (nI wt.toNat)] := by
    intro wt hw
    refine z_istore (lv' := [(0, .ref (q 0)), (1, .int (nI (r * 3 + level))), (2, .int (nI code)), (3, .int (nI level)), (4, .int (nI old.toNat)), (5, .int f), (6, .int (nI added.toNat)), (7, .int (nI r)), (8, .int (nI (nxc code level 7))), (9, .int (nI wt.toNat))]) hc dX0_extendNegated_39 (by decide) rfl ?_
    refine z_iload hc dX0_extendNegated_41 4 rfl ?_
    refine z_ifeqB hc 64 dX0_extendNegated_43 (by decide) (fun h1 => ?_) (fun h1 => ?_)
    · refine z_iload hc dX0_extendNegated_64 4 rfl ?_
      refine z_ifeqB hc 80 dX0_extendNegated_66 (by decide) (fun h2 => ?_) (fun h2 => ?_)
      · refine z_aload_n hc dX0_extendNegated_80 0 rfl rfl ?_
        refine z_iload_n hc dX0_extendNegated_81 1 rfl rfl ?_
        refine z_callVi (ci := 0) (q0 := 0) (As := [.int (nI (r * 3 + level))]) (rest := []) hc (e_anyFits _ _ q S (r * 3 + level) k1 (by omega)) gX0_anyFits aX0_anyFits (by decide) rfl rfl rfl rfl (Nat.le_of_ble_eq_true rfl) dX0_extendNegated_82 (fun rx S3 h6 => ?_)
        obtain ⟨g1, g2, g3, g4⟩ := h6
        rw [g1]
        refine z_ifneB hc 92 dX0_extendNegated_85 (by decide) (fun h7 => ?_) (fun h7 => ?_)
        · refine z_iconst hc ((nI 0)) dX0_extendNegated_92 (by decide) ?_
          refine z_istore (lv' := [(0, .ref (q 0)), (1, .int (nI (r * 3 + level))), (2, .int (nI code)), (3, .int (nI level)), (4, .int (nI old.toNat)), (5, .int f), (6, .int (nI added.toNat)), (7, .int (nI r)), (8, .int (nI (nxc code level 7))), (9, .int (nI wt.toNat)), (10, .int (nI 0))]) hc dX0_extendNegated_93 (by decide) rfl ?_
          refine z_sub [0, 1, 2, 3, 4, 5, 6, 7, 8, 10] rfl ?_
          exact J2 S3 false (by simp [exN, h1, h7]) g3 g4
        · refine z_iconst hc ((nI 1)) dX0_extendNegated_88 (by decide) ?_
          refine z_goto hc 93 dX0_extendNegated_89 (by decide) ?_
          refine z_istore (lv' := [(0, .ref (q 0)), (1, .int (nI (r * 3 + level))), (2, .int (nI code)), (3, .int (nI level)), (4, .int (nI old.toNat)), (5, .int f), (6, .int (nI added.toNat)), (7, .int (nI r)), (8, .int (nI (nxc code level 7))), (9, .int (nI wt.toNat)), (10, .int (nI 1))]) hc dX0_extendNegated_93 (by decide) rfl ?_
          refine z_sub [0, 1, 2, 3, 4, 5, 6, 7, 8, 10] rfl ?_
          exact J2 S3 true (by simp [exN, h1, h7]) g3 g4
      · exact absurd (h1.symm.trans h2) (by decide)
    · obtain ⟨k, kk, rfl⟩ := k5 h1
      refine z_aload_n hc dX0_extendNegated_46 0 rfl rfl ?_
      refine z_iload_n hc dX0_extendNegated_47 1 rfl rfl ?_
      refine z_iload hc dX0_extendNegated_48 5 rfl ?_
      refine z_iconst hc ((nI 0)) dX0_extendNegated_50 (by decide) ?_
      refine z_callVi (ci := 0) (q0 := 0) (As := [.int (nI (r * 3 + level)), .int (nI k), .int (nI 0)]) (rest := []) hc (e_fits _ _ q S (r * 3 + level) k false k1 (by omega) kk) gX0_fits aX0_fits (by decide) rfl rfl rfl rfl (Nat.le_of_ble_eq_true rfl) dX0_extendNegated_51 (fun rx S2 h6 => ?_)
      obtain ⟨f1, f2, f3, f4⟩ := h6
      rw [Bool.false_and, if_neg (by decide)] at f2
      rw [f1]
      refine z_ifneB hc 64 dX0_extendNegated_54 (by decide) (fun h2 => ?_) (fun h2 => ?_)
      · refine z_iload hc dX0_extendNegated_64 4 rfl ?_
        refine z_ifeqB hc 80 dX0_extendNegated_66 (by decide) (fun h3 => ?_) (fun h3 => ?_)
        · exact absurd (h1.symm.trans h3) (by decide)
        · refine z_iload hc dX0_extendNegated_69 6 rfl ?_
          refine z_ifeqB hc 80 dX0_extendNegated_71 (by decide) (fun h4 => ?_) (fun h4 => ?_)
          · refine z_aload_n hc dX0_extendNegated_80 0 rfl rfl ?_
            refine z_iload_n hc dX0_extendNegated_81 1 rfl rfl ?_
            refine z_callVi (ci := 0) (q0 := 0) (As := [.int (nI (r * 3 + level))]) (rest := []) hc (e_anyFits _ _ q S2 (r * 3 + level) f4 (by omega)) gX0_anyFits aX0_anyFits (by decide) rfl rfl rfl rfl (Nat.le_of_ble_eq_true rfl) dX0_extendNegated_82 (fun rx S3 h6 => ?_)
            obtain ⟨g1, g2, g3, g4⟩ := h6
            rw [anP_c f3.lo, f2] at g1
            rw [g1]
            refine z_ifneB hc 92 dX0_extendNegated_85 (by decide) (fun h7 => ?_) (fun h7 => ?_)
            · refine z_iconst hc ((nI 0)) dX0_extendNegated_92 (by decide) ?_
              refine z_istore (lv' := [(0, .ref (q 0)), (1, .int (nI (r * 3 + level))), (2, .int (nI code)), (3, .int (nI level)), (4, .int (nI old.toNat)), (5, .int (nI k)), (6, .int (nI added.toNat)), (7, .int (nI r)), (8, .int (nI (nxc code level 7))), (9, .int (nI wt.toNat)), (10, .int (nI 0))]) hc dX0_extendNegated_93 (by decide) rfl ?_
              refine z_sub [0, 1, 2, 3, 4, 5, 6, 7, 8, 10] rfl ?_
              exact J2 S3 false (by simp [exN, h1, h2, h4, h7, tn_nI (show k < 2 ^ 31 by omega)]) (f3.tr g3) g4
            · refine z_iconst hc ((nI 1)) dX0_extendNegated_88 (by decide) ?_
              refine z_goto hc 93 dX0_extendNegated_89 (by decide) ?_
              refine z_istore (lv' := [(0, .ref (q 0)), (1, .int (nI (r * 3 + level))), (2, .int (nI code)), (3, .int (nI level)), (4, .int (nI old.toNat)), (5, .int (nI k)), (6, .int (nI added.toNat)), (7, .int (nI r)), (8, .int (nI (nxc code level 7))), (9, .int (nI wt.toNat)), (10, .int (nI 1))]) hc dX0_extendNegated_93 (by decide) rfl ?_
              refine z_sub [0, 1, 2, 3, 4, 5, 6, 7, 8, 10] rfl ?_
              exact J2 S3 true (by simp [exN, h1, h2, h4, h7, tn_nI (show k < 2 ^ 31 by omega)]) (f3.tr g3) g4
          · refine z_iconst hc ((nI 0)) dX0_extendNegated_74 (by decide) ?_
            refine z_istore (lv' := [(0, .ref (q 0)), (1, .int (nI (r * 3 + level))), (2, .int (nI code)), (3, .int (nI level)), (4, .int (nI old.toNat)), (5, .int (nI k)), (6, .int (nI added.toNat)), (7, .int (nI r)), (8, .int (nI (nxc code level 7))), (9, .int (nI wt.toNat)), (10, .int (nI 0))]) hc dX0_extendNegated_75 (by decide) rfl ?_
            refine z_goto hc 95 dX0_extendNegated_77 (by decide) ?_
            refine z_sub [0, 1, 2, 3, 4, 5, 6, 7, 8, 10] rfl ?_
            exact J2 S2 false (by simp [exN, h1, h2, h4, tn_nI (show k < 2 ^ 31 by omega)]) f3 f4
      · refine z_iload hc dX0_extendNegated_57 9 rfl ?_
        refine z_istore (lv' := [(0, .ref (q 0)), (1, .int (nI (r * 3 + level))), (2, .int (nI code)), (3, .int (nI level)), (4, .int (nI old.toNat)), (5, .int (nI k)), (6, .int (nI added.toNat)), (7, .int (nI r)), (8, .int (nI (nxc code level 7))), (9, .int (nI wt.toNat)), (10, .int (nI wt.toNat))]) hc dX0_extendNegated_59 (by decide) rfl ?_
        refine z_goto hc 95 dX0_extendNegated_61 (by decide) ?_
        refine z_sub [0, 1, 2, 3, 4, 5, 6, 7, 8, 10] rfl ?_
        exact J2 S2 wt (by rw [hw]; simp [exN, h1, h2, tn_nI (show k < 2 ^ 31 by omega)]) f3 f4
  refine z_iload hc dX0_extendNegated_15 4 rfl ?_
  refine z_ifeqB hc 38 dX0_extendNegated_17 (by decide) (fun h1 => ?_) (fun h1 => ?_)
  · refine z_iconst hc ((nI 0)) dX0_extendNegated_38 (by decide) ?_
    exact J1 false (by rw [h1]; rfl)
  · refine z_aload_n hc dX0_extendNegated_20 0 rfl rfl ?_
    refine z_iload hc dX0_extendNegated_21 7 rfl ?_
    refine z_iload_n hc dX0_extendNegated_23 3 rfl rfl ?_
    refine z_iconst hc ((nI 1)) dX0_extendNegated_24 (by decide) ?_
    refine z_iadd (a := level) (b := 1) hc dX0_extendNegated_25 ?_
    refine z_iload hc dX0_extendNegated_26 8 rfl ?_
    refine z_callVi (ci := 0) (q0 := 0) (As := [.int (nI r), .int (nI (level + 1)), .int (nI (nxc code level 7))]) (rest := []) hc (e_wasIn _ _ q S r (level + 1) (nxc code level 7) k1 c4 (by omega)) gX0_wasIn aX0_wasIn (by decide) rfl rfl rfl rfl (Nat.le_of_ble_eq_true rfl) dX0_extendNegated_28 (fun rx Sx h2 => ?_)
    rw [h2.1, h2.2, bitW_c k6 (by omega) c3]
    refine z_ifeqB hc 38 dX0_extendNegated_31 (by decide) (fun h3 => ?_) (fun h3 => ?_)
    · refine z_iconst hc ((nI 0)) dX0_extendNegated_38 (by decide) ?_
      exact J1 false (by rw [h1, h3]; rfl)
    · refine z_iconst hc ((nI 1)) dX0_extendNegated_34 (by decide) ?_
      refine z_goto hc 39 dX0_extendNegated_35 (by decide) ?_
      exact J1 true (by rw [h1, h3]; rfl)
theorem e_extend (l : Launch) (K : zK) (q : Nat → Nat) (S : ES) (r level code : Nat) (f : Int32) (added : Bool) (Bf : Nat → Nat) (k1 : eOK S) (k2 : r < 3) (k3 : level < 3) (k4 : code < 8 ^ level) (k5 : bitW Bf r level code = true → ∃ k : Nat, k < 7 ∧ f = nI k) (k6 : ∀ j, r * 11 ≤ j → j < r * 11 + 11 → S 10 j = Bf j) : zMv l yX0_extend cX0_extend 12 none (rmH 4) K (eW K q) S [.ref (q 0), .int (nI r), .int (nI level), .int (nI code), .int f, .int (nI added.toNat)] (fun S' => S' 9 = exW S Bf r level code f.toInt added (S 9) ∧ (∀ i, i < 11 → i ≠ 9 → S' i = S i) ∧ eOK S') := by
  refine z_entryV RX0 (by decide) rfl (Nat.le_of_ble_eq_true rfl) (lv := [(0, .ref (q 0)), (1, .int (nI r)), (2, .int (nI level)), (3, .int (nI code)), (4, .int f), (5, .int (nI added.toNat))]) rfl (fun X hK hl hc hr => ?_)
  subst hK; subst hl
  have c1 := p8_le (L := level) (by omega)
  have c2 : 8 ^ (level + 1) ≤ 512 := p8_le (by omega)
  have c5 : wix r level code < 33 := wix_lt k2 (by omega) k4
  refine z_iload_n hc dX0_extend_0 1 rfl rfl ?_
  refine z_iconst hc ((nI 3)) dX0_extend_1 (by decide) ?_
  refine z_imul (a := r) (b := 3) hc dX0_extend_2 ?_
  refine z_iload_n hc dX0_extend_3 2 rfl rfl ?_
  refine z_iadd (a := r * 3) (b := level) hc dX0_extend_4 ?_
  refine z_istore (lv' := [(0, .ref (q 0)), (1, .int (nI r)), (2, .int (nI level)), (3, .int (nI code)), (4, .int f), (5, .int (nI added.toNat)), (6, .int (nI ((r * 3) + level)))]) hc dX0_extend_5 (by decide) rfl ?_
  refine z_aload_n hc dX0_extend_7 0 rfl rfl ?_
  refine z_iload_n hc dX0_extend_8 1 rfl rfl ?_
  refine z_iload_n hc dX0_extend_9 2 rfl rfl ?_
  refine z_iload_n hc dX0_extend_10 3 rfl rfl ?_
  refine z_callVi (ci := 0) (q0 := 0) (As := [.int (nI r), .int (nI level), .int (nI code)]) (rest := []) hc (e_wasIn _ _ q S r level code k1 c5 (by omega)) gX0_wasIn aX0_wasIn (by decide) rfl rfl rfl rfl (Nat.le_of_ble_eq_true rfl) dX0_extend_11 (fun rx Sx h1 => ?_)
  rw [h1.1, h1.2, bitW_c k6 (by omega) k4]
  obtain ⟨old, hold⟩ : ∃ b, b = bitW Bf r level code := ⟨_, rfl⟩
  rw [← hold]
  rw [← hold] at k5
  refine z_istore (lv' := [(0, .ref (q 0)), (1, .int (nI r)), (2, .int (nI level)), (3, .int (nI code)), (4, .int f), (5, .int (nI added.toNat)), (6, .int (nI ((r * 3) + level))), (7, .int (nI old.toNat))]) hc dX0_extend_14 (by decide) rfl ?_
  refine z_aload_n hc dX0_extend_16 0 rfl rfl ?_
  refine z_iload_n hc dX0_extend_17 1 rfl rfl ?_
  refine z_iload_n hc dX0_extend_18 2 rfl rfl ?_
  refine z_iload_n hc dX0_extend_19 3 rfl rfl ?_
  refine z_callVv (ci := 0) (q0 := 0) (As := [.int (nI r), .int (nI level), .int (nI code)]) (rest := []) hc (e_bindAlong _ _ q S r level code k1 k2 k3 (by omega)) gX0_bindAlong aX0_bindAlong (by decide) rfl rfl rfl rfl (Nat.le_of_ble_eq_true rfl) dX0_extend_20 (fun S1 h2 => ?_)
  obtain ⟨a1, a2, a3⟩ := h2
  have b8 : S1 8 (r * 3 + level) < 2 := a3 8 _
  have e8 : S1 8 = S 8 := a2 8 (by decide)
  obtain ⟨e, he⟩ : ∃ e, e = bnP S r code level := ⟨_, rfl⟩
  rw [← he] at a1
  refine z_aload_n hc dX0_extend_23 0 rfl rfl ?_
  refine z_eget hc 8 (by decide) q39 rfl dX0_extend_24 ?_
  refine z_iload hc dX0_extend_27 6 rfl ?_
  refine z_zald (q0 := 8) (N := 9) (f := S1 8) hc rfl (show (r * 3) + level < 9 by omega) (by decide) dX0_extend_29 ?_
  refine z_if_eq hc 48 dX0_extend_30 (by decide) (toInt_nI (by omega)) (fun h3 => ?_) (fun h3 => ?_)
  · have n8 : S 8 (r * 3 + level) = 0 := by rw [← e8]; omega
    refine z_iconst hc ((nI 0)) dX0_extend_48 (by decide) ?_
    refine z_istore (lv' := [(0, .ref (q 0)), (1, .int (nI r)), (2, .int (nI level)), (3, .int (nI code)), (4, .int f), (5, .int (nI added.toNat)), (6, .int (nI ((r * 3) + level))), (7, .int (nI old.toNat)), (8, .int (nI 0))]) hc dX0_extend_49 (by decide) rfl ?_
    have L : ∀ (g : Nat) (S2 : ES), g ≤ 7 → (S2 9 = exL S Bf e r level code old f.toInt (S 9) g ∧ eb (S2 11) = e ∧ (∀ i, i < 11 → i ≠ 9 → S2 i = S i) ∧ eOK S2) → zG X (eW (zx_K X) q) 12 S2 [(0, .ref (q 0)), (1, .int (nI r)), (2, .int (nI level)), (3, .int (nI code)), (4, .int f), (5, .int (nI added.toNat)), (6, .int (nI ((r * 3) + level))), (7, .int (nI old.toNat)), (8, .int (nI g))] 51 [] := by
      refine z_loop 7 _ _ (fun g S2 hg hI ih => ?_)
      obtain ⟨i1, i2, i3, i4⟩ := hI
      refine z_iload hc dX0_extend_51 8 rfl ?_
      refine z_bipush hc ((nI 7)) dX0_extend_53 (by decide) ?_
      refine z_icmp_ge hc 166 dX0_extend_55 (by decide) (toInt_nI (by omega)) (toInt_nI (by omega)) (fun h4 => ?_) (fun h4 => ?_)
      · have e7 : g = 7 := by omega
        subst e7
        exact z_vret hc hr dX0_extend_166 (⟨by unfold exW; rw [if_pos n8, ← he, ← hold]; exact i1, i3, i4⟩)
      · have d3 : nxc code level g < 8 ^ (level + 1) := nxc_lt k4 (by omega)
        have d4 : wix r (level + 1) (nxc code level g) < 33 := wix_lt k2 (by omega) d3
        have d5 : g * 8 ^ level ≤ 7 * 8 ^ level := Nat.mul_le_mul_right _ (by omega)
        have lo : ∀ i, i < 9 → S2 i = S i := fun i hi => i3 i (by omega) (by omega)
        have k7 : ∀ j, r * 11 ≤ j → j < r * 11 + 11 → S2 10 j = Bf j := fun j h1 h2 => by rw [i3 10 (by decide) (by decide)]; exact k6 j h1 h2
        refine z_iload_n hc dX0_extend_58 3 rfl rfl ?_
        refine z_iload hc dX0_extend_59 8 rfl ?_
        refine z_iconst hc ((nI 3)) dX0_extend_61 (by decide) ?_
        refine z_iload_n hc dX0_extend_62 2 rfl rfl ?_
        refine z_imul (a := 3) (b := level) hc dX0_extend_63 ?_
        refine z_ishl hc dX0_extend_64 (8 ^ level) (pow8 level) (by omega) (by omega) ?_
        refine z_ior (a := code) (b := g * 8 ^ level) hc dX0_extend_65 ?_
        refine z_nat (b := nxc code level g) (rfl) ?_
        refine z_istore (lv' := [(0, .ref (q 0)), (1, .int (nI r)), (2, .int (nI level)), (3, .int (nI code)), (4, .int f), (5, .int (nI added.toNat)), (6, .int (nI ((r * 3) + level))), (7, .int (nI old.toNat)), (8, .int (nI g)), (9, .int (nI (nxc code level g)))]) hc dX0_extend_66 (by decide) rfl ?_
        have J160 : ∀ S3 : ES, (S3 9 = exL S Bf e r level code old f.toInt (S 9) (g + 1) ∧ eb (S3 11) = e ∧ (∀ i, i < 11 → i ≠ 9 → S3 i = S i) ∧ eOK S3) → zG X (eW (zx_K X) q) 12 S3 [(0, .ref (q 0)), (1, .int (nI r)), (2, .int (nI level)), (3, .int (nI code)), (4, .int f), (5, .int (nI added.toNat)), (6, .int (nI ((r * 3) + level))), (7, .int (nI old.toNat)), (8, .int (nI g)), (9, .int (nI (nxc code level g)))] 160 [] := by
          intro S3 hI3
          refine z_iinc (a := g) (lv' := [(0, .ref (q 0)), (1, .int (nI r)), (2, .int (nI level)), (3, .int (nI code)), (4, .int f), (5, .int (nI added.toNat)), (6, .int (nI ((r * 3) + level))), (7, .int (nI old.toNat)), (8, .int (nI (g + 1))), (9, .int (nI (nxc code level g)))]) hc dX0_extend_160 8 rfl (by decide) rfl ?_
          refine z_goto hc 51 dX0_extend_163 (by decide) ?_
          refine z_sub [0, 1, 2, 3, 4, 5, 6, 7, 8] rfl ?_
          exact ih (by omega) S3 hI3
        have J150 : ∀ S3 : ES, (S3 9 = exL S Bf e r level code old f.toInt (S 9) g ∧ eb (S3 11) = e ∧ (∀ i, i < 11 → i ≠ 9 → S3 i = S i) ∧ eOK S3) → exP S Bf e r level code old f.toInt g = true → zG X (eW (zx_K X) q) 12 S3 [(0, .ref (q 0)), (1, .int (nI r)), (2, .int (nI level)), (3, .int (nI code)), (4, .int f), (5, .int (nI added.toNat)), (6, .int (nI ((r * 3) + level))), (7, .int (nI old.toNat)), (8, .int (nI g)), (9, .int (nI (nxc code level g)))] 150 [] := by
          intro S3 hI3 hx
          obtain ⟨j1, j2, j3, j4⟩ := hI3
          refine z_aload_n hc dX0_extend_150 0 rfl rfl ?_
          refine z_iload_n hc dX0_extend_151 1 rfl rfl ?_
          refine z_iload_n hc dX0_extend_152 2 rfl rfl ?_
          refine z_iconst hc ((nI 1)) dX0_extend_153 (by decide) ?_
          refine z_iadd (a := level) (b := 1) hc dX0_extend_154 ?_
          refine z_iload hc dX0_extend_155 9 rfl ?_
          refine z_callVv (ci := 0) (q0 := 0) (As := [.int (nI r), .int (nI (level + 1)), .int (nI (nxc code level g))]) (rest := []) hc (e_put _ _ q S3 r (level + 1) (nxc code level g) j4 d4 (by omega)) gX0_put aX0_put (by decide) rfl rfl rfl rfl (Nat.le_of_ble_eq_true rfl) dX0_extend_157 (fun S4 h8 => ?_)
          subst h8
          refine J160 _ ⟨?_, by rw [up2_n (by decide)]; exact j2, fun i hi hn => (up2_n hn).trans (j3 i hi hn), put_ok j4 _ _⟩
          rw [put_9, j1]
          show _ = (if _ then _ else _)
          rw [if_pos hx]
        have J98 : ∀ kp : Bool, kp = (old && !(decide ((g : Int) = f.toInt)) && bitW Bf r (level + 1) (nxc code level g)) → zG X (eW (zx_K X) q) 12 S2 [(0, .ref (q 0)), (1, .int (nI r)), (2, .int (nI level)), (3, .int (nI code)), (4, .int f), (5, .int (nI added.toNat)), (6, .int (nI ((r * 3) + level))), (7, .int (nI old.toNat)), (8, .int (nI g)), (9, .int (nI (nxc code level g)))] 98 [.int (nI kp.toNat)] := by
          intro kp hkp
          refine z_istore (lv' := [(0, .ref (q 0)), (1, .int (nI r)), (2, .int (nI level)), (3, .int (nI code)), (4, .int f), (5, .int (nI added.toNat)), (6, .int (nI ((r * 3) + level))), (7, .int (nI old.toNat)), (8, .int (nI g)), (9, .int (nI (nxc code level g))), (10, .int (nI kp.toNat))]) hc dX0_extend_98 (by decide) rfl ?_
          refine z_aload_n hc dX0_extend_100 0 rfl rfl ?_
          refine z_iload hc dX0_extend_101 8 rfl ?_
          refine z_callVi (ci := 0) (q0 := 0) (As := [.int (nI g)]) (rest := []) hc (e_has _ _ q S2 (nI g) i4) gX0_has aX0_has (by decide) rfl rfl rfl rfl (Nat.le_of_ble_eq_true rfl) dX0_extend_103 (fun rx Sx h5 => ?_)
          rw [h5.1, h5.2, hasI_n (by omega), hsN_c lo]
          have J126 : ∀ lk : Bool, lk = (hsN S g && (!old || decide ((g : Int) = f.toInt))) → zG X (eW (zx_K X) q) 12 S2 [(0, .ref (q 0)), (1, .int (nI r)), (2, .int (nI level)), (3, .int (nI code)), (4, .int f), (5, .int (nI added.toNat)), (6, .int (nI ((r * 3) + level))), (7, .int (nI old.toNat)), (8, .int (nI g)), (9, .int (nI (nxc code level g))), (10, .int (nI kp.toNat))] 126 [.int (nI lk.toNat)] := by
            intro lk hlk
            refine z_istore (lv' := [(0, .ref (q 0)), (1, .int (nI r)), (2, .int (nI level)), (3, .int (nI code)), (4, .int f), (5, .int (nI added.toNat)), (6, .int (nI ((r * 3) + level))), (7, .int (nI old.toNat)), (8, .int (nI g)), (9, .int (nI (nxc code level g))), (10, .int (nI kp.toNat)), (11, .int (nI lk.toNat))]) hc dX0_extend_126 (by decide) rfl ?_
            refine z_iload hc dX0_extend_128 10 rfl ?_
            refine z_ifneB hc 150 dX0_extend_130 (by decide) (fun h6 => ?_) (fun h6 => ?_)
            · refine z_sub [0, 1, 2, 3, 4, 5, 6, 7, 8, 9] rfl ?_
              exact J150 S2 ⟨i1, i2, i3, i4⟩ (by unfold exP; rw [← hkp, h6]; rfl)
            · refine z_iload hc dX0_extend_133 11 rfl ?_
              refine z_ifeqB hc 160 dX0_extend_135 (by decide) (fun h7 => ?_) (fun h7 => ?_)
              · refine z_sub [0, 1, 2, 3, 4, 5, 6, 7, 8, 9] rfl ?_
                have hx : exP S Bf e r level code old f.toInt g = false := by unfold exP; rw [← hkp, ← hlk, h6, h7]; rfl
                exact J160 S2 ⟨by rw [i1]; show _ = (if _ then _ else _); rw [if_neg (by rw [hx]; decide)], i2, i3, i4⟩
              · refine z_aload_n hc dX0_extend_138 0 rfl rfl ?_
                refine z_iload hc dX0_extend_139 6 rfl ?_
                refine z_iload hc dX0_extend_141 8 rfl ?_
                refine z_iconst hc ((nI 0)) dX0_extend_143 (by decide) ?_
                refine z_callVi (ci := 0) (q0 := 0) (As := [.int (nI ((r * 3) + level)), .int (nI g), .int (nI 0)]) (rest := []) hc (e_fits _ _ q S2 (r * 3 + level) g false i4 (by omega) (by omega)) gX0_fits aX0_fits (by decide) rfl rfl rfl rfl (Nat.le_of_ble_eq_true rfl) dX0_extend_144 (fun r9 S3 h8 => ?_)
                obtain ⟨g1, g2, g3, g4⟩ := h8
                rw [i2, fiP_c lo] at g1 g2
                rw [Bool.false_and, if_neg (by decide)] at g2
                rw [g1]
                have q9 : S3 9 = exL S Bf e r level code old f.toInt (S 9) g := (g3 9 (by decide)).trans i1
                have q3 : ∀ i, i < 11 → i ≠ 9 → S3 i = S i := fun i hi hn => (g3 i hi).trans (i3 i hi hn)
                refine z_ifeqB hc 160 dX0_extend_147 (by decide) (fun h9 => ?_) (fun h9 => ?_)
                · refine z_sub [0, 1, 2, 3, 4, 5, 6, 7, 8, 9] rfl ?_
                  have hx : exP S Bf e r level code old f.toInt g = false := by unfold exP; rw [← hkp, ← hlk, h6, h7, h9]; rfl
                  exact J160 S3 ⟨by rw [q9]; show _ = (if _ then _ else _); rw [if_neg (by rw [hx]; decide)], g2, q3, g4⟩
                · refine z_sub [0, 1, 2, 3, 4, 5, 6, 7, 8, 9] rfl ?_
                  exact J150 S3 ⟨q9, g2, q3, g4⟩ (by unfold exP; rw [← hkp, ← hlk, h6, h7, h9]; rfl)
          refine z_ifeqB hc 125 dX0_extend_106 (by decide) (fun h6 => ?_) (fun h6 => ?_)
          · refine z_iconst hc ((nI 0)) dX0_extend_125 (by decide) ?_
            exact J126 false (by rw [h6]; rfl)
          · refine z_iload hc dX0_extend_109 7 rfl ?_
            refine z_ifeqB hc 121 dX0_extend_111 (by decide) (fun h7 => ?_) (fun h7 => ?_)
            · refine z_iconst hc ((nI 1)) dX0_extend_121 (by decide) ?_
              refine z_goto hc 126 dX0_extend_122 (by decide) ?_
              exact J126 true (by rw [h6, h7]; rfl)
            · refine z_iload hc dX0_extend_114 8 rfl ?_
              refine z_iload hc dX0_extend_116 4 rfl ?_
              refine z_icmp_ne hc 125 dX0_extend_118 (by decide) (toInt_nI (by omega)) rfl (fun h8 => ?_) (fun h8 => ?_)
              · refine z_iconst hc ((nI 0)) dX0_extend_125 (by decide) ?_
                exact J126 false (by rw [h6, h7, decide_eq_false h8]; rfl)
              · refine z_iconst hc ((nI 1)) dX0_extend_121 (by decide) ?_
                refine z_goto hc 126 dX0_extend_122 (by decide) ?_
                exact J126 true (by rw [h6, h7, decide_eq_true h8]; rfl)
        refine z_iload hc dX0_extend_68 7 rfl ?_
        refine z_ifeqB hc 97 dX0_extend_70 (by decide) (fun h5 => ?_) (fun h5 => ?_)
        · refine z_iconst hc ((nI 0)) dX0_extend_97 (by decide) ?_
          exact J98 false (by rw [h5]; rfl)
        · refine z_iload hc dX0_extend_73 8 rfl ?_
          refine z_iload hc dX0_extend_75 4 rfl ?_
          refine z_icmp_eq hc 97 dX0_extend_77 (by decide) (toInt_nI (by omega)) rfl (fun h6 => ?_) (fun h6 => ?_)
          · refine z_iconst hc ((nI 0)) dX0_extend_97 (by decide) ?_
            exact J98 false (by rw [h5, decide_eq_true h6]; rfl)
          · refine z_aload_n hc dX0_extend_80 0 rfl rfl ?_
            refine z_iload_n hc dX0_extend_81 1 rfl rfl ?_
            refine z_iload_n hc dX0_extend_82 2 rfl rfl ?_
            refine z_iconst hc ((nI 1)) dX0_extend_83 (by decide) ?_
            refine z_iadd (a := level) (b := 1) hc dX0_extend_84 ?_
            refine z_iload hc dX0_extend_85 9 rfl ?_
            refine z_callVi (ci := 0) (q0 := 0) (As := [.int (nI r), .int (nI (level + 1)), .int (nI (nxc code level g))]) (rest := []) hc (e_wasIn _ _ q S2 r (level + 1) (nxc code level g) i4 d4 (by omega)) gX0_wasIn aX0_wasIn (by decide) rfl rfl rfl rfl (Nat.le_of_ble_eq_true rfl) dX0_extend_87 (fun rx Sx h7 => ?_)
            rw [h7.1, h7.2, bitW_c k7 (by omega) d3]
            refine z_ifeqB hc 97 dX0_extend_90 (by decide) (fun h8 => ?_) (fun h8 => ?_)
            · refine z_iconst hc ((nI 0)) dX0_extend_97 (by decide) ?_
              exact J98 false (by rw [h5, decide_eq_false h6, h8]; rfl)
            · refine z_iconst hc ((nI 1)) dX0_extend_93 (by decide) ?_
              refine z_goto hc 98 dX0_extend_94 (by decide) ?_
              exact J98 true (by rw [h5, decide_eq_false h6, h8]; rfl)
    exact L 0 S1 (by decide) ⟨a2 9 (by decide), a1, fun i hi _ => a2 i hi, a3⟩
  · refine z_aload_n hc dX0_extend_33 0 rfl rfl ?_
    refine z_iload hc dX0_extend_34 6 rfl ?_
    refine z_iload_n hc dX0_extend_36 3 rfl rfl ?_
    refine z_iload_n hc dX0_extend_37 2 rfl rfl ?_
    refine z_iload hc dX0_extend_38 7 rfl ?_
    refine z_iload hc dX0_extend_40 4 rfl ?_
    refine z_iload hc dX0_extend_42 5 rfl ?_
    refine z_callVv (ci := 0) (q0 := 0) (As := [.int (nI ((r * 3) + level)), .int (nI code), .int (nI level), .int (nI old.toNat), .int f, .int (nI added.toNat)]) (rest := []) hc (e_extendNegated _ _ q S1 r level code old f added Bf a3 k2 k3 k4 k5 (fun j h1 h2 => by rw [a2 10 (by decide)]; exact k6 j h1 h2)) gX0_extendNegated aX0_extendNegated (by decide) rfl rfl rfl rfl (Nat.le_of_ble_eq_true rfl) dX0_extend_44 (fun S2 h4 => ?_)
    obtain ⟨g1, g2, g3⟩ := h4
    have n8 : ¬ S 8 (r * 3 + level) = 0 := by rw [← e8]; omega
    rw [exN_c a2.lo, a1, a2 9 (by decide)] at g1
    exact z_vret hc hr dX0_extend_47 (⟨by unfold exW; rw [if_neg n8, ← he, ← hold]; exact g1, fun i hi hn => (g2 i hi hn).trans (a2 i hi), g3⟩)
end
section
/-! update: a walk printed by w14.py -/
set_option maxRecDepth 100000
theorem exP_c {S S' : ES} (h : ∀ i, i < 9 → S' i = S i) (Bf : Nat → Nat) (e : E3) (r level code : Nat) (old : Bool) (f : Int) (g : Nat) : exP S' Bf e r level code old f g = exP S Bf e r level code old f g := by
  unfold exP
  rw [fiP_c h, hsN_c h]
theorem exL_c {S S' : ES} (h : ∀ i, i < 9 → S' i = S i) (Bf : Nat → Nat) (e : E3) (r level code : Nat) (old : Bool) (f : Int) (W : Nat → Nat) : ∀ n, exL S' Bf e r level code old f W n = exL S Bf e r level code old f W n
  | 0 => rfl
  | n + 1 => by
    unfold exL
    rw [exL_c h Bf e r level code old f W n, exP_c h]
theorem exW_c {S S' : ES} (h : ∀ i, i < 9 → S' i = S i) (Bf : Nat → Nat) (r level code : Nat) (f : Int) (added : Bool) (W : Nat → Nat) : exW S' Bf r level code f added W = exW S Bf r level code f added W := by
  unfold exW
  rw [h 8 (by decide), bnP_c h, exL_c h, exN_c h]
theorem clr9_s (W : Nat → Nat) (r k : Nat) : updN (clr9 W r k) (r * 11 + k) 0 = clr9 W r (k + 1) := by
  funext j
  unfold updN clr9
  by_cases e : j = r * 11 + k
  · rw [if_pos e, if_pos (by omega)]
  · rw [if_neg e]
    by_cases e2 : r * 11 ≤ j ∧ j < r * 11 + k
    · rw [if_pos e2, if_pos (by omega)]
    · rw [if_neg e2, if_neg (by omega)]
theorem bf_neg {W : Nat → Nat} {r L c : Nat} {f : Int} (h : f < 0) : bitW (bf10 W r f) r L c = false := by
  unfold bitW bf10
  rw [if_pos h]
  exact Nat.zero_testBit _
theorem e_update (l : Launch) (K : zK) (q : Nat → Nat) (S : ES) (r : Nat) (f : Int32) (added : Bool) (k1 : eOK S) (k2 : r < 3) (k3 : f.toInt < 0 ∨ ∃ k : Nat, k < 7 ∧ f = nI k) : zMv l yX0_update cX0_update 6 none (rmH 5) K (eW K q) S [.ref (q 0), .int (nI r), .int f, .int (nI added.toNat)] (fun S' => S' 9 = up9 S r f.toInt added ∧ (∀ i, i < 9 → S' i = S i) ∧ eOK S') := by
  refine z_entryV RX0 (by decide) rfl (Nat.le_of_ble_eq_true rfl) (lv := [(0, .ref (q 0)), (1, .int (nI r)), (2, .int f), (3, .int (nI added.toNat))]) rfl (fun X hK hl hc hr => ?_)
  subst hK; subst hl
  obtain ⟨Bf, hBf⟩ : ∃ b, b = bf10 (S 9) r f.toInt := ⟨_, rfl⟩
  obtain ⟨W0, hW0⟩ : ∃ b, b = updN (clr9 (S 9) r 11) (r * 11) 1 := ⟨_, rfl⟩
  have k4 : S 4 r < 4 := k1 4 r
  have k5 : ∀ n c, bitW Bf r n c = true → ∃ k : Nat, k < 7 ∧ f = nI k := fun n c h => k3.elim (fun h0 => absurd h (by rw [hBf, bf_neg h0]; decide)) id
  have L2 : ∀ (n : Nat) (S3 : ES), n ≤ S 4 r → (S3 9 = upL S Bf r f.toInt added W0 n ∧ (∀ j, r * 11 ≤ j → j < r * 11 + 11 → S3 10 j = Bf j) ∧ (∀ i, i < 9 → S3 i = S i) ∧ eOK S3) → zG X (eW (zx_K X) q) 6 S3 [(0, .ref (q 0)), (1, .int (nI r)), (2, .int f), (3, .int (nI added.toNat)), (4, .int (nI n))] 92 [] := by
    refine z_loop (S 4 r) _ _ (fun n S3 hn hI ih => ?_)
    obtain ⟨i1, i2, i3, i4⟩ := hI
    have e4 : S3 4 = S 4 := i3 4 (by decide)
    have b4 : S3 4 r < 4 := i4 4 r
    refine z_iload hc dX0_update_92 4 rfl ?_
    refine z_aload_n hc dX0_update_94 0 rfl rfl ?_
    refine z_eget hc 4 (by decide) q35 rfl dX0_update_95 ?_
    refine z_iload_n hc dX0_update_98 1 rfl rfl ?_
    refine z_bald (q0 := 4) (N := 3) (f := S3 4) hc rfl (show r < 3 by omega) (by decide) dX0_update_99 ?_
    refine z_icmp_ge hc 151 dX0_update_100 (by decide) (toInt_nI (by omega)) (toInt_nI (by omega)) (fun h1 => ?_) (fun h1 => ?_)
    · have e : n = S 4 r := by rw [e4] at h1; omega
      subst e
      exact z_vret hc hr dX0_update_151 (⟨by rw [i1, hBf, hW0]; rfl, i3, i4⟩)
    · have hn3 : n < S 4 r := by rw [e4] at h1; omega
      have p1 := p8_le (L := n) (by omega)
      refine z_iconst hc ((nI 0)) dX0_update_103 (by decide) ?_
      refine z_istore (lv' := [(0, .ref (q 0)), (1, .int (nI r)), (2, .int f), (3, .int (nI added.toNat)), (4, .int (nI n)), (5, .int (nI 0))]) hc dX0_update_104 (by decide) rfl ?_
      have L3 : ∀ (c : Nat) (S4 : ES), c ≤ 8 ^ n → (S4 9 = upC S Bf r n f.toInt added (upL S Bf r f.toInt added W0 n) c ∧ (∀ j, r * 11 ≤ j → j < r * 11 + 11 → S4 10 j = Bf j) ∧ (∀ i, i < 9 → S4 i = S i) ∧ eOK S4) → zG X (eW (zx_K X) q) 6 S4 [(0, .ref (q 0)), (1, .int (nI r)), (2, .int f), (3, .int (nI added.toNat)), (4, .int (nI n)), (5, .int (nI c))] 106 [] := by
        refine z_loop (8 ^ n) _ _ (fun c S4 hcc hI2 ih2 => ?_)
        obtain ⟨j1, j2, j3, j4⟩ := hI2
        refine z_iload hc dX0_update_106 5 rfl ?_
        refine z_iload hc dX0_update_108 4 rfl ?_
        refine z_callSi (As := [.int (nI n)]) (rest := [.int (nI c)]) hc (s_codes _ _ _ _ n (by omega)) gX0_codes aX0_codes (by decide) rfl rfl (Nat.le_of_ble_eq_true rfl) dX0_update_110 (fun rx Sx h2 => ?_)
        rw [h2.1, h2.2]
        refine z_icmp_ge hc 145 dX0_update_113 (by decide) (toInt_nI (by omega)) (toInt_nI (by omega)) (fun h3 => ?_) (fun h3 => ?_)
        · have e : c = 8 ^ n := by omega
          subst e
          refine z_iinc (a := n) (lv' := [(0, .ref (q 0)), (1, .int (nI r)), (2, .int f), (3, .int (nI added.toNat)), (4, .int (nI (n + 1))), (5, .int (nI (8 ^ n)))]) hc dX0_update_145 4 rfl (by decide) rfl ?_
          refine z_goto hc 92 dX0_update_148 (by decide) ?_
          refine z_sub [0, 1, 2, 3, 4] rfl ?_
          exact ih (by omega) S4 ⟨j1, j2, j3, j4⟩
        · have lt : c < 8 ^ n := by omega
          have w1 : wix r n c < 33 := wix_lt k2 (by omega) lt
          refine z_aload_n hc dX0_update_116 0 rfl rfl ?_
          refine z_iload_n hc dX0_update_117 1 rfl rfl ?_
          refine z_iload hc dX0_update_118 4 rfl ?_
          refine z_iload hc dX0_update_120 5 rfl ?_
          refine z_callVi (ci := 0) (q0 := 0) (As := [.int (nI r), .int (nI n), .int (nI c)]) (rest := []) hc (e_isIn _ _ q S4 r n c j4 w1 (by omega)) gX0_isIn aX0_isIn (by decide) rfl rfl rfl rfl (Nat.le_of_ble_eq_true rfl) dX0_update_122 (fun rx Sx h4 => ?_)
          rw [h4.1, h4.2]
          refine z_ifeqB hc 139 dX0_update_125 (by decide) (fun h5 => ?_) (fun h5 => ?_)
          · refine z_iinc (a := c) (lv' := [(0, .ref (q 0)), (1, .int (nI r)), (2, .int f), (3, .int (nI added.toNat)), (4, .int (nI n)), (5, .int (nI (c + 1)))]) hc dX0_update_139 5 rfl (by decide) rfl ?_
            refine z_goto hc 106 dX0_update_142 (by decide) ?_
            exact ih2 (by omega) S4 ⟨by unfold upC; rw [if_neg (by rw [← j1, h5]; decide)]; exact j1, j2, j3, j4⟩
          · refine z_aload_n hc dX0_update_128 0 rfl rfl ?_
            refine z_iload_n hc dX0_update_129 1 rfl rfl ?_
            refine z_iload hc dX0_update_130 4 rfl ?_
            refine z_iload hc dX0_update_132 5 rfl ?_
            refine z_iload_n hc dX0_update_134 2 rfl rfl ?_
            refine z_iload_n hc dX0_update_135 3 rfl rfl ?_
            refine z_callVv (ci := 0) (q0 := 0) (As := [.int (nI r), .int (nI n), .int (nI c), .int f, .int (nI added.toNat)]) (rest := []) hc (e_extend _ _ q S4 r n c f added Bf j4 k2 (by omega) lt (k5 n c) j2) gX0_extend aX0_extend (by decide) rfl rfl rfl rfl (Nat.le_of_ble_eq_true rfl) dX0_update_136 (fun S5 h6 => ?_)
            obtain ⟨g1, g2, g3⟩ := h6
            refine z_iinc (a := c) (lv' := [(0, .ref (q 0)), (1, .int (nI r)), (2, .int f), (3, .int (nI added.toNat)), (4, .int (nI n)), (5, .int (nI (c + 1)))]) hc dX0_update_139 5 rfl (by decide) rfl ?_
            refine z_goto hc 106 dX0_update_142 (by decide) ?_
            refine ih2 (by omega) S5 ⟨?_, fun j h1 h2 => by rw [g2 10 (by decide) (by decide)]; exact j2 j h1 h2, fun i hi => (g2 i (by omega) (by omega)).trans (j3 i hi), g3⟩
            unfold upC
            rw [if_pos (by rw [← j1]; exact h5), g1, exW_c j3, j1]
      exact L3 0 S3 (Nat.zero_le _) ⟨i1, i2, i3, i4⟩
  have J61 : ∀ S1 : ES, (S1 9 = clr9 (S 9) r 11 ∧ (∀ j, r * 11 ≤ j → j < r * 11 + 11 → S1 10 j = if f.toInt < 0 then 0 else S 9 j) ∧ (∀ i, i ≠ 9 → i ≠ 10 → S1 i = S i) ∧ eOK S1) → zG X (eW (zx_K X) q) 6 S1 [(0, .ref (q 0)), (1, .int (nI r)), (2, .int f), (3, .int (nI added.toNat))] 61 [] := by
    intro S1 hI
    obtain ⟨i1, i2, i3, i4⟩ := hI
    refine z_aload_n hc dX0_update_61 0 rfl rfl ?_
    refine z_eget hc 9 (by decide) q40 rfl dX0_update_62 ?_
    refine z_iload_n hc dX0_update_65 1 rfl rfl ?_
    refine z_bipush hc ((nI 11)) dX0_update_66 (by decide) ?_
    refine z_imul (a := r) (b := 11) hc dX0_update_68 ?_
    refine z_lconst hc 1 dX0_update_69 rfl ?_
    refine z_last (q0 := 9) (N := 33) (f := S1 9) hc rfl (show r * 11 < 33 by omega) (by decide) (eW_set9 _ _ _ _ _) dX0_update_70 ?_
    refine z_aload_n hc dX0_update_71 0 rfl rfl ?_
    refine z_eget hc 10 (by decide) q41 rfl dX0_update_72 ?_
    refine z_iload_n hc dX0_update_75 1 rfl rfl ?_
    refine z_bipush hc ((nI 11)) dX0_update_76 (by decide) ?_
    refine z_imul (a := r) (b := 11) hc dX0_update_78 ?_
    have J88 : ∀ v : Nat, v = (if f.toInt < 0 then 0 else 1) → zG X (eW (zx_K X) q) 6 (up2 S1 9 (r * 11) 1) [(0, .ref (q 0)), (1, .int (nI r)), (2, .int f), (3, .int (nI added.toNat))] 88 [.long (lN v), .int (nI (r * 11)), .ref (q 10)] := by
      intro v hv
      have hv2 : v < 2 ^ 64 := by rw [hv]; split <;> decide
      refine z_last (q0 := 10) (N := 33) (f := (up2 S1 9 (r * 11) 1) 10) hc rfl (show r * 11 < 33 by omega) (by decide) (eW_set10 _ _ _ _ _) dX0_update_88 ?_
      refine z_iconst hc ((nI 0)) dX0_update_89 (by decide) ?_
      refine z_istore (lv' := [(0, .ref (q 0)), (1, .int (nI r)), (2, .int f), (3, .int (nI added.toNat)), (4, .int (nI 0))]) hc dX0_update_90 (by decide) rfl ?_
      refine L2 0 _ (Nat.zero_le _) ⟨?_, ?_, ?_, (i4.up 9 _ (show 1 < 2 ^ 64 by decide)).up 10 _ hv2⟩
      · rw [up2_n (by decide), up2_s, i1, hW0]; rfl
      · intro j h1 h2
        rw [up2_s, up2_n (by decide), hBf]
        unfold bf10
        by_cases e : j = r * 11
        · rw [e, updN_s, hv, if_pos rfl]
        · rw [updN_n e, i2 j h1 h2, if_neg e]
      · intro i hi
        rw [up2_n (by omega), up2_n (by omega)]
        exact i3 i (by omega) (by omega)
    refine z_iload_n hc dX0_update_79 2 rfl rfl ?_
    refine z_if_ge hc 87 dX0_update_80 (by decide) rfl (fun h1 => ?_) (fun h1 => ?_)
    · refine z_lconst hc 1 dX0_update_87 rfl ?_
      exact J88 1 (by rw [if_neg (by omega)])
    · refine z_lconst hc 0 dX0_update_83 rfl ?_
      refine z_goto hc 88 dX0_update_84 (by decide) ?_
      exact J88 0 (by rw [if_pos (by omega)])
  refine z_iconst hc ((nI 0)) dX0_update_0 (by decide) ?_
  refine z_istore (lv' := [(0, .ref (q 0)), (1, .int (nI r)), (2, .int f), (3, .int (nI added.toNat)), (4, .int (nI 0))]) hc dX0_update_1 (by decide) rfl ?_
  have L1 : ∀ (w : Nat) (S1 : ES), w ≤ 11 → (S1 9 = clr9 (S 9) r w ∧ (∀ j, r * 11 ≤ j → j < r * 11 + w → S1 10 j = if f.toInt < 0 then 0 else S 9 j) ∧ (∀ i, i ≠ 9 → i ≠ 10 → S1 i = S i) ∧ eOK S1) → zG X (eW (zx_K X) q) 6 S1 [(0, .ref (q 0)), (1, .int (nI r)), (2, .int f), (3, .int (nI added.toNat)), (4, .int (nI w))] 3 [] := by
    refine z_loop 11 _ _ (fun w S1 hw hI ih => ?_)
    obtain ⟨i1, i2, i3, i4⟩ := hI
    refine z_iload hc dX0_update_3 4 rfl ?_
    refine z_bipush hc ((nI 11)) dX0_update_5 (by decide) ?_
    refine z_icmp_ge hc 61 dX0_update_7 (by decide) (toInt_nI (by omega)) (toInt_nI (by omega)) (fun h1 => ?_) (fun h1 => ?_)
    · have e : w = 11 := by omega
      subst e
      refine z_sub [0, 1, 2, 3] rfl ?_
      exact J61 S1 ⟨i1, i2, i3, i4⟩
    · refine z_aload_n hc dX0_update_10 0 rfl rfl ?_
      refine z_eget hc 10 (by decide) q41 rfl dX0_update_11 ?_
      refine z_iload_n hc dX0_update_14 1 rfl rfl ?_
      refine z_bipush hc ((nI 11)) dX0_update_15 (by decide) ?_
      refine z_imul (a := r) (b := 11) hc dX0_update_17 ?_
      refine z_iload hc dX0_update_18 4 rfl ?_
      refine z_iadd (a := r * 11) (b := w) hc dX0_update_20 ?_
      have J41 : ∀ v : Nat, v < 2 ^ 64 → v = (if f.toInt < 0 then 0 else S 9 (r * 11 + w)) → zG X (eW (zx_K X) q) 6 S1 [(0, .ref (q 0)), (1, .int (nI r)), (2, .int f), (3, .int (nI added.toNat)), (4, .int (nI w))] 41 [.long (lN v), .int (nI ((r * 11) + w)), .ref (q 10)] := by
        intro v hv2 hv
        refine z_last (q0 := 10) (N := 33) (f := S1 10) hc rfl (show (r * 11) + w < 33 by omega) (by decide) (eW_set10 _ _ _ _ _) dX0_update_41 ?_
        refine z_aload_n hc dX0_update_42 0 rfl rfl ?_
        refine z_eget hc 9 (by decide) q40 rfl dX0_update_43 ?_
        refine z_iload_n hc dX0_update_46 1 rfl rfl ?_
        refine z_bipush hc ((nI 11)) dX0_update_47 (by decide) ?_
        refine z_imul (a := r) (b := 11) hc dX0_update_49 ?_
        refine z_iload hc dX0_update_50 4 rfl ?_
        refine z_iadd (a := r * 11) (b := w) hc dX0_update_52 ?_
        refine z_lconst hc 0 dX0_update_53 rfl ?_
        refine z_last (q0 := 9) (N := 33) (f := (up2 S1 10 ((r * 11) + w) v) 9) hc rfl (show (r * 11) + w < 33 by omega) (by decide) (eW_set9 _ _ _ _ _) dX0_update_54 ?_
        refine z_iinc (a := w) (lv' := [(0, .ref (q 0)), (1, .int (nI r)), (2, .int f), (3, .int (nI added.toNat)), (4, .int (nI (w + 1)))]) hc dX0_update_55 4 rfl (by decide) rfl ?_
        refine z_goto hc 3 dX0_update_58 (by decide) ?_
        refine ih (by omega) _ ⟨?_, ?_, ?_, (i4.up 10 _ hv2).up 9 _ (show 0 < 2 ^ 64 by decide)⟩
        · rw [up2_s, up2_n (by decide), i1]; exact clr9_s _ _ _
        · intro j h1 h2
          rw [up2_n (by decide), up2_s]
          by_cases e : j = r * 11 + w
          · rw [e, updN_s, hv]
          · rw [updN_n e]; exact i2 j h1 (by omega)
        · intro i h9 h10
          rw [up2_n h9, up2_n h10]; exact i3 i h9 h10
      refine z_iload_n hc dX0_update_21 2 rfl rfl ?_
      refine z_if_ge hc 29 dX0_update_22 (by decide) rfl (fun h2 => ?_) (fun h2 => ?_)
      · refine z_aload_n hc dX0_update_29 0 rfl rfl ?_
        refine z_eget hc 9 (by decide) q40 rfl dX0_update_30 ?_
        refine z_iload_n hc dX0_update_33 1 rfl rfl ?_
        refine z_bipush hc ((nI 11)) dX0_update_34 (by decide) ?_
        refine z_imul (a := r) (b := 11) hc dX0_update_36 ?_
        refine z_iload hc dX0_update_37 4 rfl ?_
        refine z_iadd (a := r * 11) (b := w) hc dX0_update_39 ?_
        refine z_lald (q0 := 9) (N := 33) (f := S1 9) hc rfl (show (r * 11) + w < 33 by omega) (by decide) dX0_update_40 ?_
        exact J41 _ (i4 9 _) (by rw [if_neg (by omega), i1]; unfold clr9; rw [if_neg (by omega)])
      · refine z_lconst hc 0 dX0_update_25 rfl ?_
        refine z_goto hc 41 dX0_update_26 (by decide) ?_
        exact J41 0 (by decide) (by rw [if_pos (by omega)])
  exact L1 0 S (by decide) ⟨by funext j; unfold clr9; rw [if_neg (by omega)], fun j h1 h2 => absurd h2 (by omega), fun _ _ _ => rfl, k1⟩
end
section
/-! PLAIN: what the engine's public methods answer -/
def ctP (p : Nat → Bool) : Nat → Nat
  | 0 => 0
  | n + 1 => ctP p n + (p n).toNat
theorem ctP_1 {p : Nat → Bool} {n : Nat} (h : p n = true) : ctP p n + 1 = ctP p (n + 1) := by
  show _ = ctP p n + (p n).toNat
  rw [h]; rfl
theorem ctP_0 {p : Nat → Bool} {n : Nat} (h : p n = false) : ctP p n = ctP p (n + 1) := by
  show _ = ctP p n + (p n).toNat
  rw [h]; rfl
theorem ctP_le (p : Nat → Bool) : ∀ n, ctP p n ≤ n
  | 0 => Nat.le_refl _
  | n + 1 => by
    have := ctP_le p n
    have h2 : (p n).toNat ≤ 1 := Bool.toNat_le _
    show ctP p n + (p n).toNat ≤ n + 1
    omega
def cntE (S : ES) (a L : Nat) : Nat := ctP (fun c => bitW (S 9) a L c) (8 ^ L)
theorem cntE_le (S : ES) (a : Nat) {L : Nat} (h : L ≤ 3) : cntE S a L ≤ 512 := Nat.le_trans (ctP_le _ _) (p8_le h)
def mtE (S : ES) (x : Int32) : Int32 := if isR x = true then nI (cntE S x.toInt.toNat (S 4 x.toInt.toNat)) else -1
theorem isR_n {a : Nat} (h : a < 3) : isR (nI a) = true := by
  unfold isR
  rw [toInt_nI (by omega)]
  exact decide_eq_true (by omega)
theorem mtE_n (S : ES) {a : Nat} (h : a < 3) : mtE S (nI a) = nI (cntE S a (S 4 a)) := by
  unfold mtE
  rw [if_pos (isR_n h), tn_nI (by omega)]
/-- the k-th place where p holds -/
def kthR (p : Nat → Bool) (n : Nat) (k : Int32) (off : Nat) (r : Int32) : Prop := (∃ i, i < n ∧ p i = true ∧ k = nI (ctP p i) ∧ r = nI (off + i)) ∨ ((∀ i, i < n → p i = true → ¬ k = nI (ctP p i)) ∧ r = -1)
def mchE (S : ES) (x k r : Int32) : Prop := (isR x = false ∧ r = -1) ∨ (∃ a : Nat, a < 3 ∧ x = nI a ∧ kthR (fun c => bitW (S 9) a (S 4 a) c) (8 ^ S 4 a) k (512 - 8 ^ S 4 a) r)
def rdP (b : Nat → Bool) : Nat → Nat
  | 0 => 0
  | n + 1 => if b n = true then rdP b n ||| 2 ^ n else rdP b n
theorem rdP_1 {b : Nat → Bool} {n : Nat} (h : b n = true) : rdP b n ||| 2 ^ n = rdP b (n + 1) := by
  show _ = (if b n = true then _ else _)
  rw [if_pos h]
theorem rdP_0 {b : Nat → Bool} {n : Nat} (h : b n = false) : rdP b n = rdP b (n + 1) := by
  show _ = (if b n = true then _ else _)
  rw [if_neg (by rw [h]; decide)]
def usE (S : ES) (f : Nat) : Nat → Nat
  | 0 => 0
  | n + 1 => usE S f n + ctP (fun c => bitW (S 9) n (S 4 n) c && holP c f (S 4 n)) (8 ^ S 4 n)
def usI (S : ES) (x : Int32) : Int32 := if hasI S x = true then nI (usE S x.toInt.toNat 3) else -1
def ftE (S : ES) (x y : Int32) : Int32 := if isR x = true ∧ 0 ≤ y.toInt ∧ y.toInt < S 4 x.toInt.toNat then nI (ctP (fun f => hsN S f && lrP S (x.toInt.toNat * 3 + y.toInt.toNat) f) 7) else -1
def paE (S : ES) (x y : Int32) : Int32 := if isR x = true ∧ 0 ≤ y.toInt ∧ y.toInt ≤ S 4 x.toInt.toNat then nI (cntE S x.toInt.toNat y.toInt.toNat) else -1
/-- an update's end -/
def upR (S1 S' : ES) (a : Nat) (f : Int) (added : Bool) : Prop := S' 9 = up9 S1 a f added ∧ (∀ i, i < 9 → S' i = S1 i) ∧ eOK S'
def up3 (S1 S' : ES) (f : Int) (added : Bool) : Prop := ∃ Sa Sb, upR S1 Sa 0 f added ∧ upR Sa Sb 1 f added ∧ upR Sb S' 2 f added
def cdS (S : ES) (a w : Nat) : ES := up2 (up2 (up2 (up2 (up2 S 5 (a * 3 + S 4 a) (w % 4)) 6 (a * 3 + S 4 a) (w / 4 % 8)) 7 (a * 3 + S 4 a) (w / 32 % 8)) 8 (a * 3 + S 4 a) (decide (256 ≤ w)).toNat) 4 a (S 4 a + 1)
def cdR (S : ES) (x y r : Int32) (S' : ES) : Prop := (¬ (isR x = true ∧ 0 ≤ y.toInt ∧ y.toInt ≤ 511 ∧ y.toInt.toNat % 4 ≤ 2) ∧ r = -1 ∧ S' = S) ∨ (∃ a w : Nat, a < 3 ∧ w < 512 ∧ w % 4 ≤ 2 ∧ x = nI a ∧ y = nI w ∧ ((3 ≤ S 4 a ∧ r = -2 ∧ S' = S) ∨ (S 4 a < 3 ∧ r = nI (S 4 a + 1) ∧ upR (cdS S a w) S' a (-1) true)))
def dpR (S : ES) (x r : Int32) (S' : ES) : Prop := (isR x = false ∧ r = -1 ∧ S' = S) ∨ (∃ a : Nat, a < 3 ∧ x = nI a ∧ ((S 4 a = 0 ∧ r = -1 ∧ S' = S) ∨ (0 < S 4 a ∧ r = nI (S 4 a - 1) ∧ upR (up2 S 4 a (S 4 a - 1)) S' a (-1) true)))
def adS (S : ES) (f k a b : Nat) : ES := up2 (up2 (up2 (up2 S 0 0 (S 0 0 ||| 2 ^ f)) 1 f k) 2 f a) 3 f b
def adR (S : ES) (x y z r : Int32) (S' : ES) : Prop := (fOk x y z = false ∧ r = -1 ∧ S' = S) ∨ (∃ k a b : Nat, k < 3 ∧ a < 4 ∧ b < 4 ∧ x = nI k ∧ y = nI a ∧ z = nI b ∧ (((∀ g, g < 7 → hsN S g = true) ∧ r = -2 ∧ S' = S) ∨ (∃ f : Nat, f < 7 ∧ (∀ g, g < f → hsN S g = true) ∧ hsN S f = false ∧ r = nI f ∧ up3 (adS S f k a b) S' f true)))
def rmR (S : ES) (x r : Int32) (S' : ES) : Prop := (hasI S x = false ∧ r = nI 0 ∧ S' = S) ∨ (∃ f : Nat, f < 7 ∧ x = nI f ∧ hsN S f = true ∧ r = nI 1 ∧ up3 (up2 S 0 0 (S 0 0 - 2 ^ f)) S' f false)
def efR (S : ES) (x y z w r : Int32) (S' : ES) : Prop := ((isR x = false ∨ fOk y z w = false ∨ S 0 0 = 127) ∧ r = -1000 ∧ S' = S) ∨ (isR x = true ∧ fOk y z w = true ∧ ¬ S 0 0 = 127 ∧ ∃ (S1 : ES) (f r2 : Int32), adR S y z w f S1 ∧ eOK S1 ∧ rmR S1 f r2 S' ∧ r = mtE S1 x - mtE S x)
theorem mis_e : ∀ L, L < 4 → nI 511 &&& (nI (8 ^ L - 1) ^^^ (-1)) = nI (512 - 8 ^ L) := by decide +kernel
theorem mis_or0 : ∀ c, c < 1 → c ||| 511 = 511 + c := by decide +kernel
theorem mis_or1 : ∀ c, c < 8 → c ||| 504 = 504 + c := by decide +kernel
theorem mis_or2 : ∀ c, c < 64 → c ||| 448 = 448 + c := by decide +kernel
theorem mis_or {L c : Nat} (hL : L < 4) (h : c < 8 ^ L) : c ||| (512 - 8 ^ L) = 512 - 8 ^ L + c := by
  rcases (show L = 0 ∨ L = 1 ∨ L = 2 ∨ L = 3 by omega) with rfl | rfl | rfl | rfl
  · exact mis_or0 c h
  · exact mis_or1 c h
  · exact mis_or2 c h
  · show c ||| 0 = 0 + c
    rw [Nat.or_zero, Nat.zero_add]
theorem clr_e : ∀ p, p < 128 → ∀ f, f < 7 → p.testBit f = true → nI p &&& (nI (1 * 2 ^ f) ^^^ (-1)) = nI (p - 2 ^ f) := by decide +kernel
theorem set_lt : ∀ p, p < 128 → ∀ f, f < 7 → p ||| 2 ^ f < 128 := by decide +kernel
end
section
/-! the engine's queries: walks printed by w16.py -/
set_option maxRecDepth 100000
theorem e_countAt (l : Launch) (K : zK) (q : Nat → Nat) (S : ES) (a L : Nat) (k1 : eOK S) (k2 : a < 3) (k3 : L ≤ 3) : zMi l yX0_countAt cX0_countAt 5 (some .int) (rmH 2) K (eW K q) S [.ref (q 0), .int (nI a), .int (nI L)] (fun r S' => r = nI (cntE S a L) ∧ S' = S) := by
  refine z_entryI RX0 (by decide) rfl (Nat.le_of_ble_eq_true rfl) (lv := [(0, .ref (q 0)), (1, .int (nI a)), (2, .int (nI L))]) rfl (fun X hK hl hc hr => ?_)
  subst hK; subst hl
  have p1 := p8_le k3
  obtain ⟨p, hp⟩ : ∃ p, p = fun c => bitW (S 9) a L c := ⟨_, rfl⟩
  refine z_iconst hc ((nI 0)) dX0_countAt_0 (by decide) ?_
  refine z_istore_n (lv' := [(0, .ref (q 0)), (1, .int (nI a)), (2, .int (nI L)), (3, .int (nI 0))]) hc dX0_countAt_1 rfl (by decide) rfl ?_
  refine z_iconst hc ((nI 0)) dX0_countAt_2 (by decide) ?_
  refine z_istore (lv' := [(0, .ref (q 0)), (1, .int (nI a)), (2, .int (nI L)), (3, .int (nI 0)), (4, .int (nI 0))]) hc dX0_countAt_3 (by decide) rfl ?_
  have Lp : ∀ (c : Nat) (t : Unit), c ≤ 8 ^ L → True → zG X (eW (zx_K X) q) 5 S [(0, .ref (q 0)), (1, .int (nI a)), (2, .int (nI L)), (3, .int (nI (ctP p c))), (4, .int (nI c))] 5 [] := by
    refine z_loop (8 ^ L) (fun _ _ => True) _ (fun c t hcc hI ih => ?_)
    refine z_iload hc dX0_countAt_5 4 rfl ?_
    refine z_iload_n hc dX0_countAt_7 2 rfl rfl ?_
    refine z_callSi (As := [.int (nI L)]) (rest := [.int (nI c)]) hc (s_codes _ _ _ _ L k3) gX0_codes aX0_codes (by decide) rfl rfl (Nat.le_of_ble_eq_true rfl) dX0_countAt_8 (fun rx Sx h2 => ?_)
    rw [h2.1, h2.2]
    refine z_icmp_ge hc 39 dX0_countAt_11 (by decide) (toInt_nI (by omega)) (toInt_nI (by omega)) (fun h3 => ?_) (fun h3 => ?_)
    · have e : c = 8 ^ L := by omega
      subst e
      refine z_iload_n hc dX0_countAt_39 3 rfl rfl ?_
      exact z_iret hc hr rfl dX0_countAt_40 (⟨by rw [hp]; rfl, rfl⟩)
    · have lt : c < 8 ^ L := by omega
      refine z_iload_n hc dX0_countAt_14 3 rfl rfl ?_
      refine z_aload_n hc dX0_countAt_15 0 rfl rfl ?_
      refine z_iload_n hc dX0_countAt_16 1 rfl rfl ?_
      refine z_iload_n hc dX0_countAt_17 2 rfl rfl ?_
      refine z_iload hc dX0_countAt_18 4 rfl ?_
      refine z_callVi (ci := 0) (q0 := 0) (As := [.int (nI a), .int (nI L), .int (nI c)]) (rest := [.int (nI (ctP p c))]) hc (e_isIn _ _ q S a L c k1 (wix_lt k2 k3 lt) (by omega)) gX0_isIn aX0_isIn (by decide) rfl rfl rfl rfl (Nat.le_of_ble_eq_true rfl) dX0_countAt_20 (fun rx Sx h4 => ?_)
      rw [h4.1, h4.2]
      refine z_ifeqB hc 30 dX0_countAt_23 (by decide) (fun h5 => ?_) (fun h5 => ?_)
      · refine z_iconst hc ((nI 0)) dX0_countAt_30 (by decide) ?_
        refine z_iadd (a := ctP p c) (b := 0) hc dX0_countAt_31 ?_
        refine z_nat (b := ctP p (c + 1)) (ctP_0 (n := c) (by rw [hp]; exact h5)) ?_
        refine z_istore_n (lv' := [(0, .ref (q 0)), (1, .int (nI a)), (2, .int (nI L)), (3, .int (nI (ctP p (c + 1)))), (4, .int (nI c))]) hc dX0_countAt_32 rfl (by decide) rfl ?_
        refine z_iinc (a := c) (lv' := [(0, .ref (q 0)), (1, .int (nI a)), (2, .int (nI L)), (3, .int (nI (ctP p (c + 1)))), (4, .int (nI (c + 1)))]) hc dX0_countAt_33 4 rfl (by decide) rfl ?_
        refine z_goto hc 5 dX0_countAt_36 (by decide) ?_
        exact ih (by omega) () trivial
      · refine z_iconst hc ((nI 1)) dX0_countAt_26 (by decide) ?_
        refine z_goto hc 31 dX0_countAt_27 (by decide) ?_
        refine z_iadd (a := ctP p c) (b := 1) hc dX0_countAt_31 ?_
        refine z_nat (b := ctP p (c + 1)) (ctP_1 (by rw [hp]; exact h5)) ?_
        refine z_istore_n (lv' := [(0, .ref (q 0)), (1, .int (nI a)), (2, .int (nI L)), (3, .int (nI (ctP p (c + 1)))), (4, .int (nI c))]) hc dX0_countAt_32 rfl (by decide) rfl ?_
        refine z_iinc (a := c) (lv' := [(0, .ref (q 0)), (1, .int (nI a)), (2, .int (nI L)), (3, .int (nI (ctP p (c + 1)))), (4, .int (nI (c + 1)))]) hc dX0_countAt_33 4 rfl (by decide) rfl ?_
        refine z_goto hc 5 dX0_countAt_36 (by decide) ?_
        exact ih (by omega) () trivial
  exact Lp 0 () (Nat.zero_le _) trivial
theorem e_matches (l : Launch) (K : zK) (q : Nat → Nat) (S : ES) (x : Int32) (k1 : eOK S) : zMi l yX0_matches cX0_matches 2 (some .int) (rmH 3) K (eW K q) S [.ref (q 0), .int x] (fun r S' => r = mtE S x ∧ S' = S) := by
  refine z_entryI RX0 (by decide) rfl (Nat.le_of_ble_eq_true rfl) (lv := [(0, .ref (q 0)), (1, .int x)]) rfl (fun X hK hl hc hr => ?_)
  subst hK; subst hl
  refine z_iload_n hc dX0_matches_0 1 rfl rfl ?_
  refine z_callSi (As := [.int x]) (rest := []) hc (s_isRule _ _ _ _ x) gX0_isRule aX0_isRule (by decide) rfl rfl (Nat.le_of_ble_eq_true rfl) dX0_matches_1 (fun rx Sx h1 => ?_)
  rw [h1.1, h1.2]
  refine z_ifeqB hc 21 dX0_matches_4 (by decide) (fun h2 => ?_) (fun h2 => ?_)
  · refine z_iconst hc ((-1)) dX0_matches_21 (by decide) ?_
    exact z_iret hc hr rfl dX0_matches_22 (⟨by unfold mtE; rw [if_neg (by rw [h2]; decide)], rfl⟩)
  · obtain ⟨a, ka, rfl⟩ : ∃ a : Nat, a < 3 ∧ x = nI a := by unfold isR at h2; have h2 := of_decide_eq_true h2; exact nI_ex h2.1 h2.2
    have b4 : S 4 a < 4 := k1 4 a
    refine z_aload_n hc dX0_matches_7 0 rfl rfl ?_
    refine z_iload_n hc dX0_matches_8 1 rfl rfl ?_
    refine z_aload_n hc dX0_matches_9 0 rfl rfl ?_
    refine z_eget hc 4 (by decide) q35 rfl dX0_matches_10 ?_
    refine z_iload_n hc dX0_matches_13 1 rfl rfl ?_
    refine z_bald (q0 := 4) (N := 3) (f := S 4) hc rfl (show a < 3 by omega) (by decide) dX0_matches_14 ?_
    refine z_callVi (ci := 0) (q0 := 0) (As := [.int (nI a), .int (nI (S 4 a))]) (rest := []) hc (e_countAt _ _ q S a (S 4 a) k1 ka (by omega)) gX0_countAt aX0_countAt (by decide) rfl rfl rfl rfl (Nat.le_of_ble_eq_true rfl) dX0_matches_15 (fun rx Sx h3 => ?_)
    rw [h3.1, h3.2]
    refine z_goto hc 22 dX0_matches_18 (by decide) ?_
    exact z_iret hc hr rfl dX0_matches_22 (⟨(mtE_n S ka).symm, rfl⟩)
theorem e_match (l : Launch) (K : zK) (q : Nat → Nat) (S : ES) (x k : Int32) (k1 : eOK S) : zMi l yX0_match cX0_match 7 (some .int) (rmH 2) K (eW K q) S [.ref (q 0), .int x, .int k] (fun r S' => mchE S x k r ∧ S' = S) := by
  refine z_entryI RX0 (by decide) rfl (Nat.le_of_ble_eq_true rfl) (lv := [(0, .ref (q 0)), (1, .int x), (2, .int k)]) rfl (fun X hK hl hc hr => ?_)
  subst hK; subst hl
  refine z_iload_n hc dX0_match_0 1 rfl rfl ?_
  refine z_callSi (As := [.int x]) (rest := []) hc (s_isRule _ _ _ _ x) gX0_isRule aX0_isRule (by decide) rfl rfl (Nat.le_of_ble_eq_true rfl) dX0_match_1 (fun rx Sx h1 => ?_)
  rw [h1.1, h1.2]
  refine z_ifneB hc 9 dX0_match_4 (by decide) (fun h2 => ?_) (fun h2 => ?_)
  · obtain ⟨a, ka, rfl⟩ : ∃ a : Nat, a < 3 ∧ x = nI a := by unfold isR at h2; have h2 := of_decide_eq_true h2; exact nI_ex h2.1 h2.2
    have b4 : S 4 a < 4 := k1 4 a
    obtain ⟨L, hL⟩ : ∃ L, L = S 4 a := ⟨_, rfl⟩
    have p1 := p8_le (L := L) (by omega)
    have p2 : 0 < 8 ^ L := Nat.pow_pos (by decide)
    refine z_aload_n hc dX0_match_9 0 rfl rfl ?_
    refine z_eget hc 4 (by decide) q35 rfl dX0_match_10 ?_
    refine z_iload_n hc dX0_match_13 1 rfl rfl ?_
    refine z_bald (q0 := 4) (N := 3) (f := S 4) hc rfl (show a < 3 by omega) (by decide) dX0_match_14 ?_
    refine z_nat (b := L) (hL.symm) ?_
    refine z_istore_n (lv' := [(0, .ref (q 0)), (1, .int (nI a)), (2, .int k), (3, .int (nI L))]) hc dX0_match_15 rfl (by decide) rfl ?_
    refine z_sipush hc ((nI 511)) dX0_match_16 (by decide) ?_
    refine z_iload_n hc dX0_match_19 3 rfl rfl ?_
    refine z_callSi (As := [.int (nI L)]) (rest := [.int (nI 511)]) hc (s_codes _ _ _ _ L (by omega)) gX0_codes aX0_codes (by decide) rfl rfl (Nat.le_of_ble_eq_true rfl) dX0_match_20 (fun rx Sx h3 => ?_)
    rw [h3.1, h3.2]
    refine z_iconst hc ((nI 1)) dX0_match_23 (by decide) ?_
    refine z_isub (a := 8 ^ L) (b := 1) hc dX0_match_24 (by omega) ?_
    refine z_iconst hc ((-1)) dX0_match_25 (by decide) ?_
    refine z_ixorR hc (nI (8 ^ L - 1) ^^^ (-1)) dX0_match_26 rfl ?_
    refine z_iandR hc (nI (512 - 8 ^ L)) dX0_match_27 (mis_e L (by omega)) ?_
    obtain ⟨p, hp⟩ : ∃ p, p = fun c => bitW (S 9) a L c := ⟨_, rfl⟩
    refine z_istore (lv' := [(0, .ref (q 0)), (1, .int (nI a)), (2, .int k), (3, .int (nI L)), (4, .int (nI (512 - 8 ^ L)))]) hc dX0_match_28 (by decide) rfl ?_
    refine z_iconst hc ((nI 0)) dX0_match_30 (by decide) ?_
    refine z_istore (lv' := [(0, .ref (q 0)), (1, .int (nI a)), (2, .int k), (3, .int (nI L)), (4, .int (nI (512 - 8 ^ L))), (5, .int (nI 0))]) hc dX0_match_31 (by decide) rfl ?_
    refine z_iconst hc ((nI 0)) dX0_match_33 (by decide) ?_
    refine z_istore (lv' := [(0, .ref (q 0)), (1, .int (nI a)), (2, .int k), (3, .int (nI L)), (4, .int (nI (512 - 8 ^ L))), (5, .int (nI 0)), (6, .int (nI 0))]) hc dX0_match_34 (by decide) rfl ?_
    have Lp : ∀ (c : Nat) (t : Unit), c ≤ 8 ^ L → (∀ i, i < c → p i = true → ¬ k = nI (ctP p i)) → zG X (eW (zx_K X) q) 7 S [(0, .ref (q 0)), (1, .int (nI a)), (2, .int k), (3, .int (nI L)), (4, .int (nI (512 - 8 ^ L))), (5, .int (nI (ctP p c))), (6, .int (nI c))] 36 [] := by
      refine z_loop (8 ^ L) (fun c _ => ∀ i, i < c → p i = true → ¬ k = nI (ctP p i)) _ (fun c t hcc hI ih => ?_)
      have c1 := ctP_le p c
      refine z_iload hc dX0_match_36 6 rfl ?_
      refine z_iload_n hc dX0_match_38 3 rfl rfl ?_
      refine z_callSi (As := [.int (nI L)]) (rest := [.int (nI c)]) hc (s_codes _ _ _ _ L (by omega)) gX0_codes aX0_codes (by decide) rfl rfl (Nat.le_of_ble_eq_true rfl) dX0_match_39 (fun rx Sx h4 => ?_)
      rw [h4.1, h4.2]
      refine z_icmp_ge hc 77 dX0_match_42 (by decide) (toInt_nI (by omega)) (toInt_nI (by omega)) (fun h5 => ?_) (fun h5 => ?_)
      · have e : c = 8 ^ L := by omega
        subst e
        refine z_iconst hc ((-1)) dX0_match_77 (by decide) ?_
        exact z_iret hc hr rfl dX0_match_78 (⟨Or.inr ⟨a, ka, rfl, by rw [← hL, ← hp]; exact Or.inr ⟨hI, rfl⟩⟩, rfl⟩)
      · have lt : c < 8 ^ L := by omega
        refine z_aload_n hc dX0_match_45 0 rfl rfl ?_
        refine z_iload_n hc dX0_match_46 1 rfl rfl ?_
        refine z_iload_n hc dX0_match_47 3 rfl rfl ?_
        refine z_iload hc dX0_match_48 6 rfl ?_
        refine z_callVi (ci := 0) (q0 := 0) (As := [.int (nI a), .int (nI L), .int (nI c)]) (rest := []) hc (e_isIn _ _ q S a L c k1 (wix_lt ka (by omega) lt) (by omega)) gX0_isIn aX0_isIn (by decide) rfl rfl rfl rfl (Nat.le_of_ble_eq_true rfl) dX0_match_50 (fun rx Sx h6 => ?_)
        rw [h6.1, h6.2]
        refine z_ifeqB hc 71 dX0_match_53 (by decide) (fun h7 => ?_) (fun h7 => ?_)
        · have h7 : p c = false := by rw [hp]; exact h7
          refine z_iinc (a := c) (lv' := [(0, .ref (q 0)), (1, .int (nI a)), (2, .int k), (3, .int (nI L)), (4, .int (nI (512 - 8 ^ L))), (5, .int (nI (ctP p c))), (6, .int (nI (c + 1)))]) hc dX0_match_71 6 rfl (by decide) rfl ?_
          refine z_goto hc 36 dX0_match_74 (by decide) ?_
          rw [show ctP p c = ctP p (c + 1) from ctP_0 h7]
          refine ih (by omega) () (fun i hi hpi => ?_)
          by_cases e : i = c
          · rw [e, h7] at hpi; cases hpi
          · exact hI i (by omega) hpi
        · have h7 : p c = true := by rw [hp]; exact h7
          refine z_iload hc dX0_match_56 5 rfl ?_
          refine z_iload_n hc dX0_match_58 2 rfl rfl ?_
          refine z_icmp_ne hc 68 dX0_match_59 (by decide) (toInt_nI (by omega)) rfl (fun h8 => ?_) (fun h8 => ?_)
          · refine z_iinc (a := ctP p c) (lv' := [(0, .ref (q 0)), (1, .int (nI a)), (2, .int k), (3, .int (nI L)), (4, .int (nI (512 - 8 ^ L))), (5, .int (nI (ctP p c + 1))), (6, .int (nI c))]) hc dX0_match_68 5 rfl (by decide) rfl ?_
            rw [ctP_1 h7]
            refine z_iinc (a := c) (lv' := [(0, .ref (q 0)), (1, .int (nI a)), (2, .int k), (3, .int (nI L)), (4, .int (nI (512 - 8 ^ L))), (5, .int (nI (ctP p (c + 1)))), (6, .int (nI (c + 1)))]) hc dX0_match_71 6 rfl (by decide) rfl ?_
            refine z_goto hc 36 dX0_match_74 (by decide) ?_
            refine ih (by omega) () (fun i hi hpi => ?_)
            by_cases e : i = c
            · rw [e]; exact fun hk => h8 (by rw [hk, toInt_nI (by omega)])
            · exact hI i (by omega) hpi
          · refine z_iload hc dX0_match_62 6 rfl ?_
            refine z_iload hc dX0_match_64 4 rfl ?_
            refine z_ior (a := c) (b := 512 - 8 ^ L) hc dX0_match_66 ?_
            exact z_iret hc hr rfl dX0_match_67 (⟨Or.inr ⟨a, ka, rfl, by rw [← hL, ← hp]; exact Or.inl ⟨c, lt, h7, Int32.toInt_inj.mp (by rw [toInt_nI (by omega)]; exact h8.symm), by rw [mis_or (by omega) lt]⟩⟩, rfl⟩)
    exact Lp 0 () (Nat.zero_le _) (fun i hi => absurd hi (Nat.not_lt_zero i))
  · refine z_iconst hc ((-1)) dX0_match_7 (by decide) ?_
    exact z_iret hc hr rfl dX0_match_8 (⟨Or.inl ⟨h2, rfl⟩, rfl⟩)
theorem e_ready (l : Launch) (K : zK) (q : Nat → Nat) (S : ES) (k1 : eOK S) : zMi l yX0_ready cX0_ready 3 (some .int) (rmH 4) K (eW K q) S [.ref (q 0)] (fun r S' => r = nI (rdP (fun a => decide (0 < cntE S a (S 4 a))) 3) ∧ S' = S) := by
  refine z_entryI RX0 (by decide) rfl (Nat.le_of_ble_eq_true rfl) (lv := [(0, .ref (q 0))]) rfl (fun X hK hl hc hr => ?_)
  subst hK; subst hl
  obtain ⟨b, hb⟩ : ∃ b, b = fun a => decide (0 < cntE S a (S 4 a)) := ⟨_, rfl⟩
  refine z_iconst hc ((nI 0)) dX0_ready_0 (by decide) ?_
  refine z_istore_n (lv' := [(0, .ref (q 0)), (1, .int (nI 0))]) hc dX0_ready_1 rfl (by decide) rfl ?_
  refine z_iconst hc ((nI 0)) dX0_ready_2 (by decide) ?_
  refine z_istore_n (lv' := [(0, .ref (q 0)), (1, .int (nI 0)), (2, .int (nI 0))]) hc dX0_ready_3 rfl (by decide) rfl ?_
  have Lp : ∀ (a : Nat) (t : Unit), a ≤ 3 → True → zG X (eW (zx_K X) q) 3 S [(0, .ref (q 0)), (1, .int (nI (rdP b a))), (2, .int (nI a))] 4 [] := by
    refine z_loop 3 (fun _ _ => True) _ (fun a t ha hI ih => ?_)
    refine z_iload_n hc dX0_ready_4 2 rfl rfl ?_
    refine z_iconst hc ((nI 3)) dX0_ready_5 (by decide) ?_
    refine z_icmp_ge hc 33 dX0_ready_6 (by decide) (toInt_nI (by omega)) (toInt_nI (by omega)) (fun h1 => ?_) (fun h1 => ?_)
    · have e : a = 3 := by omega
      subst e
      refine z_iload_n hc dX0_ready_33 1 rfl rfl ?_
      exact z_iret hc hr rfl dX0_ready_34 (⟨by rw [hb], rfl⟩)
    · have b4 : S 4 a < 4 := k1 4 a
      have c1 := cntE_le S a (L := S 4 a) (by omega)
      refine z_iload_n hc dX0_ready_9 1 rfl rfl ?_
      refine z_aload_n hc dX0_ready_10 0 rfl rfl ?_
      refine z_iload_n hc dX0_ready_11 2 rfl rfl ?_
      refine z_callVi (ci := 0) (q0 := 0) (As := [.int (nI a)]) (rest := [.int (nI (rdP b a))]) hc (e_matches _ _ q S (nI a) k1) gX0_matches aX0_matches (by decide) rfl rfl rfl rfl (Nat.le_of_ble_eq_true rfl) dX0_ready_12 (fun rx Sx h2 => ?_)
      rw [h2.1, h2.2, mtE_n S (by omega)]
      refine z_if_le hc 24 dX0_ready_15 (by decide) (toInt_nI (by omega)) (fun h3 => ?_) (fun h3 => ?_)
      · refine z_iconst hc ((nI 0)) dX0_ready_24 (by decide) ?_
        refine z_ior (a := rdP b a) (b := 0) hc dX0_ready_25 ?_
        refine z_nat (b := rdP b a) (Nat.or_zero _) ?_
        refine z_nat (b := rdP b (a + 1)) (rdP_0 (n := a) (by rw [hb]; exact decide_eq_false (by omega))) ?_
        refine z_istore_n (lv' := [(0, .ref (q 0)), (1, .int (nI (rdP b (a + 1)))), (2, .int (nI a))]) hc dX0_ready_26 rfl (by decide) rfl ?_
        refine z_iinc (a := a) (lv' := [(0, .ref (q 0)), (1, .int (nI (rdP b (a + 1)))), (2, .int (nI (a + 1)))]) hc dX0_ready_27 2 rfl (by decide) rfl ?_
        refine z_goto hc 4 dX0_ready_30 (by decide) ?_
        exact ih (by omega) () trivial
      · have q1 : 2 ^ a ≤ 2 ^ 3 := Nat.pow_le_pow_right (by decide) (by omega)
        refine z_iconst hc ((nI 1)) dX0_ready_18 (by decide) ?_
        refine z_iload_n hc dX0_ready_19 2 rfl rfl ?_
        refine z_ishl hc dX0_ready_20 (2 ^ a) rfl (by omega) (by omega) ?_
        refine z_nat (b := 2 ^ a) (Nat.one_mul _) ?_
        refine z_goto hc 25 dX0_ready_21 (by decide) ?_
        refine z_ior (a := rdP b a) (b := 2 ^ a) hc dX0_ready_25 ?_
        refine z_nat (b := rdP b (a + 1)) (rdP_1 (by rw [hb]; exact decide_eq_true (by omega))) ?_
        refine z_istore_n (lv' := [(0, .ref (q 0)), (1, .int (nI (rdP b (a + 1)))), (2, .int (nI a))]) hc dX0_ready_26 rfl (by decide) rfl ?_
        refine z_iinc (a := a) (lv' := [(0, .ref (q 0)), (1, .int (nI (rdP b (a + 1)))), (2, .int (nI (a + 1)))]) hc dX0_ready_27 2 rfl (by decide) rfl ?_
        refine z_goto hc 4 dX0_ready_30 (by decide) ?_
        exact ih (by omega) () trivial
  exact Lp 0 () (Nat.zero_le _) trivial
theorem e_uses (l : Launch) (K : zK) (q : Nat → Nat) (S : ES) (x : Int32) (k1 : eOK S) : zMi l yX0_uses cX0_uses 6 (some .int) (rmH 2) K (eW K q) S [.ref (q 0), .int x] (fun r S' => r = usI S x ∧ S' = S) := by
  refine z_entryI RX0 (by decide) rfl (Nat.le_of_ble_eq_true rfl) (lv := [(0, .ref (q 0)), (1, .int x)]) rfl (fun X hK hl hc hr => ?_)
  subst hK; subst hl
  refine z_aload_n hc dX0_uses_0 0 rfl rfl ?_
  refine z_iload_n hc dX0_uses_1 1 rfl rfl ?_
  refine z_callVi (ci := 0) (q0 := 0) (As := [.int x]) (rest := []) hc (e_has _ _ q S x k1) gX0_has aX0_has (by decide) rfl rfl rfl rfl (Nat.le_of_ble_eq_true rfl) dX0_uses_2 (fun rx Sx h1 => ?_)
  rw [h1.1, h1.2]
  refine z_ifneB hc 10 dX0_uses_5 (by decide) (fun h2 => ?_) (fun h2 => ?_)
  · obtain ⟨f, kf, rfl⟩ : ∃ f : Nat, f < 7 ∧ x = nI f := by unfold hasI at h2; have h2 := of_decide_eq_true (Bool.and_eq_true_iff.mp h2).1; exact nI_ex h2.1 h2.2
    refine z_iconst hc ((nI 0)) dX0_uses_10 (by decide) ?_
    refine z_istore_n (lv' := [(0, .ref (q 0)), (1, .int (nI f)), (2, .int (nI 0))]) hc dX0_uses_11 rfl (by decide) rfl ?_
    refine z_iconst hc ((nI 0)) dX0_uses_12 (by decide) ?_
    refine z_istore_n (lv' := [(0, .ref (q 0)), (1, .int (nI f)), (2, .int (nI 0)), (3, .int (nI 0))]) hc dX0_uses_13 rfl (by decide) rfl ?_
    have L1 : ∀ (a : Nat) (t : Unit), a ≤ 3 → True → zG X (eW (zx_K X) q) 6 S [(0, .ref (q 0)), (1, .int (nI f)), (2, .int (nI (usE S f a))), (3, .int (nI a))] 14 [] := by
      refine z_loop 3 (fun _ _ => True) _ (fun a t ha hI ih => ?_)
      refine z_iload_n hc dX0_uses_14 3 rfl rfl ?_
      refine z_iconst hc ((nI 3)) dX0_uses_15 (by decide) ?_
      refine z_icmp_ge hc 83 dX0_uses_16 (by decide) (toInt_nI (by omega)) (toInt_nI (by omega)) (fun h3 => ?_) (fun h3 => ?_)
      · have e : a = 3 := by omega
        subst e
        refine z_iload_n hc dX0_uses_83 2 rfl rfl ?_
        exact z_iret hc hr rfl dX0_uses_84 (⟨by unfold usI; rw [if_pos h2, tn_nI (by omega)], rfl⟩)
      · have b4 : S 4 a < 4 := k1 4 a
        obtain ⟨L, hL⟩ : ∃ L, L = S 4 a := ⟨_, rfl⟩
        have p1 := p8_le (L := L) (by omega)
        obtain ⟨p, hp⟩ : ∃ p, p = fun c => bitW (S 9) a L c && holP c f L := ⟨_, rfl⟩
        refine z_aload_n hc dX0_uses_19 0 rfl rfl ?_
        refine z_eget hc 4 (by decide) q35 rfl dX0_uses_20 ?_
        refine z_iload_n hc dX0_uses_23 3 rfl rfl ?_
        refine z_bald (q0 := 4) (N := 3) (f := S 4) hc rfl (show a < 3 by omega) (by decide) dX0_uses_24 ?_
        refine z_nat (b := L) (hL.symm) ?_
        refine z_istore (lv' := [(0, .ref (q 0)), (1, .int (nI f)), (2, .int (nI (usE S f a))), (3, .int (nI a)), (4, .int (nI L))]) hc dX0_uses_25 (by decide) rfl ?_
        refine z_iconst hc ((nI 0)) dX0_uses_27 (by decide) ?_
        refine z_istore (lv' := [(0, .ref (q 0)), (1, .int (nI f)), (2, .int (nI (usE S f a))), (3, .int (nI a)), (4, .int (nI L)), (5, .int (nI 0))]) hc dX0_uses_28 (by decide) rfl ?_
        have L2 : ∀ (c : Nat) (t : Unit), c ≤ 8 ^ L → True → zG X (eW (zx_K X) q) 6 S [(0, .ref (q 0)), (1, .int (nI f)), (2, .int (nI (usE S f a + ctP p c))), (3, .int (nI a)), (4, .int (nI L)), (5, .int (nI c))] 30 [] := by
          refine z_loop (8 ^ L) (fun _ _ => True) _ (fun c t hcc hI2 ih2 => ?_)
          refine z_iload hc dX0_uses_30 5 rfl ?_
          refine z_iload hc dX0_uses_32 4 rfl ?_
          refine z_callSi (As := [.int (nI L)]) (rest := [.int (nI c)]) hc (s_codes _ _ _ _ L (by omega)) gX0_codes aX0_codes (by decide) rfl rfl (Nat.le_of_ble_eq_true rfl) dX0_uses_34 (fun rx Sx h4 => ?_)
          rw [h4.1, h4.2]
          refine z_icmp_ge hc 77 dX0_uses_37 (by decide) (toInt_nI (by omega)) (toInt_nI (by omega)) (fun h5 => ?_) (fun h5 => ?_)
          · have e : c = 8 ^ L := by omega
            subst e
            refine z_iinc (a := a) (lv' := [(0, .ref (q 0)), (1, .int (nI f)), (2, .int (nI (usE S f a + ctP p (8 ^ L)))), (3, .int (nI (a + 1))), (4, .int (nI L)), (5, .int (nI (8 ^ L)))]) hc dX0_uses_77 3 rfl (by decide) rfl ?_
            refine z_goto hc 14 dX0_uses_80 (by decide) ?_
            refine z_sub [0, 1, 2, 3] rfl ?_
            have e2 : usE S f a + ctP p (8 ^ L) = usE S f (a + 1) := by rw [hp, hL]; rfl
            rw [e2]
            exact ih (by omega) () trivial
          · have lt : c < 8 ^ L := by omega
            refine z_iload_n hc dX0_uses_40 2 rfl rfl ?_
            refine z_aload_n hc dX0_uses_41 0 rfl rfl ?_
            refine z_iload_n hc dX0_uses_42 3 rfl rfl ?_
            refine z_iload hc dX0_uses_43 4 rfl ?_
            refine z_iload hc dX0_uses_45 5 rfl ?_
            refine z_callVi (ci := 0) (q0 := 0) (As := [.int (nI a), .int (nI L), .int (nI c)]) (rest := [.int (nI (usE S f a + ctP p c))]) hc (e_isIn _ _ q S a L c k1 (wix_lt (by omega) (by omega) lt) (by omega)) gX0_isIn aX0_isIn (by decide) rfl rfl rfl rfl (Nat.le_of_ble_eq_true rfl) dX0_uses_47 (fun rx Sx h6 => ?_)
            rw [h6.1, h6.2]
            refine z_ifeqB hc 68 dX0_uses_50 (by decide) (fun h7 => ?_) (fun h7 => ?_)
            · refine z_iconst hc ((nI 0)) dX0_uses_68 (by decide) ?_
              refine z_iadd (a := usE S f a + ctP p c) (b := 0) hc dX0_uses_69 ?_
              refine z_nat (b := usE S f a + ctP p (c + 1)) (by rw [← ctP_0 (show p c = false from by rw [hp]; show (bitW (S 9) a L c && _) = false; rw [h7]; rfl)]; rfl) ?_
              refine z_istore_n (lv' := [(0, .ref (q 0)), (1, .int (nI f)), (2, .int (nI (usE S f a + ctP p (c + 1)))), (3, .int (nI a)), (4, .int (nI L)), (5, .int (nI c))]) hc dX0_uses_70 rfl (by decide) rfl ?_
              refine z_iinc (a := c) (lv' := [(0, .ref (q 0)), (1, .int (nI f)), (2, .int (nI (usE S f a + ctP p (c + 1)))), (3, .int (nI a)), (4, .int (nI L)), (5, .int (nI (c + 1)))]) hc dX0_uses_71 5 rfl (by decide) rfl ?_
              refine z_goto hc 30 dX0_uses_74 (by decide) ?_
              exact ih2 (by omega) () trivial
            · refine z_iload hc dX0_uses_53 5 rfl ?_
              refine z_iload hc dX0_uses_55 4 rfl ?_
              refine z_iload_n hc dX0_uses_57 1 rfl rfl ?_
              refine z_callSi (As := [.int (nI c), .int (nI L), .int (nI f)]) (rest := [.int (nI (usE S f a + ctP p c))]) hc (s_holds _ _ _ _ c L f (by omega) (by omega) (by omega)) gX0_holds aX0_holds (by decide) rfl rfl (Nat.le_of_ble_eq_true rfl) dX0_uses_58 (fun rx Sx h8 => ?_)
              rw [h8.1, h8.2]
              refine z_ifeqB hc 68 dX0_uses_61 (by decide) (fun h9 => ?_) (fun h9 => ?_)
              · refine z_iconst hc ((nI 0)) dX0_uses_68 (by decide) ?_
                refine z_iadd (a := usE S f a + ctP p c) (b := 0) hc dX0_uses_69 ?_
                refine z_nat (b := usE S f a + ctP p (c + 1)) (by rw [← ctP_0 (show p c = false from by rw [hp]; show (bitW (S 9) a L c && holP c f L) = false; rw [h7, h9]; rfl)]; rfl) ?_
                refine z_istore_n (lv' := [(0, .ref (q 0)), (1, .int (nI f)), (2, .int (nI (usE S f a + ctP p (c + 1)))), (3, .int (nI a)), (4, .int (nI L)), (5, .int (nI c))]) hc dX0_uses_70 rfl (by decide) rfl ?_
                refine z_iinc (a := c) (lv' := [(0, .ref (q 0)), (1, .int (nI f)), (2, .int (nI (usE S f a + ctP p (c + 1)))), (3, .int (nI a)), (4, .int (nI L)), (5, .int (nI (c + 1)))]) hc dX0_uses_71 5 rfl (by decide) rfl ?_
                refine z_goto hc 30 dX0_uses_74 (by decide) ?_
                exact ih2 (by omega) () trivial
              · refine z_iconst hc ((nI 1)) dX0_uses_64 (by decide) ?_
                refine z_goto hc 69 dX0_uses_65 (by decide) ?_
                refine z_iadd (a := usE S f a + ctP p c) (b := 1) hc dX0_uses_69 ?_
                refine z_nat (b := usE S f a + ctP p (c + 1)) (by rw [← ctP_1 (show p c = true from by rw [hp]; show (bitW (S 9) a L c && holP c f L) = true; rw [h7, h9]; rfl)]; omega) ?_
                refine z_istore_n (lv' := [(0, .ref (q 0)), (1, .int (nI f)), (2, .int (nI (usE S f a + ctP p (c + 1)))), (3, .int (nI a)), (4, .int (nI L)), (5, .int (nI c))]) hc dX0_uses_70 rfl (by decide) rfl ?_
                refine z_iinc (a := c) (lv' := [(0, .ref (q 0)), (1, .int (nI f)), (2, .int (nI (usE S f a + ctP p (c + 1)))), (3, .int (nI a)), (4, .int (nI L)), (5, .int (nI (c + 1)))]) hc dX0_uses_71 5 rfl (by decide) rfl ?_
                refine z_goto hc 30 dX0_uses_74 (by decide) ?_
                exact ih2 (by omega) () trivial
        exact L2 0 () (Nat.zero_le _) trivial
    exact L1 0 () (Nat.zero_le _) trivial
  · refine z_iconst hc ((-1)) dX0_uses_8 (by decide) ?_
    exact z_iret hc hr rfl dX0_uses_9 (⟨by unfold usI; rw [if_neg (by rw [h2]; decide)], rfl⟩)
theorem e_fitting (l : Launch) (K : zK) (q : Nat → Nat) (S : ES) (x y : Int32) (k1 : eOK S) : zMi l yX0_fitting cX0_fitting 5 (some .int) (rmH 2) K (eW K q) S [.ref (q 0), .int x, .int y] (fun r S' => r = ftE S x y ∧ S' = S) := by
  refine z_entryI RX0 (by decide) rfl (Nat.le_of_ble_eq_true rfl) (lv := [(0, .ref (q 0)), (1, .int x), (2, .int y)]) rfl (fun X hK hl hc hr => ?_)
  subst hK; subst hl
  refine z_iload_n hc dX0_fitting_0 1 rfl rfl ?_
  refine z_callSi (As := [.int x]) (rest := []) hc (s_isRule _ _ _ _ x) gX0_isRule aX0_isRule (by decide) rfl rfl (Nat.le_of_ble_eq_true rfl) dX0_fitting_1 (fun rx Sx h1 => ?_)
  rw [h1.1, h1.2]
  refine z_ifeqB hc 21 dX0_fitting_4 (by decide) (fun h2 => ?_) (fun h2 => ?_)
  · refine z_iconst hc ((-1)) dX0_fitting_21 (by decide) ?_
    exact z_iret hc hr rfl dX0_fitting_22 (⟨by unfold ftE; rw [if_neg (by rw [h2]; exact fun h => absurd h.1 (by decide))], rfl⟩)
  · have h2' := h2
    obtain ⟨a, ka, rfl⟩ : ∃ a : Nat, a < 3 ∧ x = nI a := by unfold isR at h2; have h2 := of_decide_eq_true h2; exact nI_ex h2.1 h2.2
    have b4 : S 4 a < 4 := k1 4 a
    refine z_iload_n hc dX0_fitting_7 2 rfl rfl ?_
    refine z_if_lt hc 21 dX0_fitting_8 (by decide) rfl (fun h3 => ?_) (fun h3 => ?_)
    · refine z_iconst hc ((-1)) dX0_fitting_21 (by decide) ?_
      exact z_iret hc hr rfl dX0_fitting_22 (⟨by unfold ftE; rw [if_neg (fun h => by have := h.2.1; omega)], rfl⟩)
    · refine z_iload_n hc dX0_fitting_11 2 rfl rfl ?_
      refine z_aload_n hc dX0_fitting_12 0 rfl rfl ?_
      refine z_eget hc 4 (by decide) q35 rfl dX0_fitting_13 ?_
      refine z_iload_n hc dX0_fitting_16 1 rfl rfl ?_
      refine z_bald (q0 := 4) (N := 3) (f := S 4) hc rfl (show a < 3 by omega) (by decide) dX0_fitting_17 ?_
      refine z_icmp_lt hc 23 dX0_fitting_18 (by decide) rfl (toInt_nI (by omega)) (fun h4 => ?_) (fun h4 => ?_)
      · obtain ⟨i, ki, rfl⟩ := nI_ex (x := y) (n := S 4 a) (by omega) h4
        obtain ⟨p, hp⟩ : ∃ p, p = fun f => hsN S f && lrP S (a * 3 + i) f := ⟨_, rfl⟩
        refine z_iconst hc ((nI 0)) dX0_fitting_23 (by decide) ?_
        refine z_istore_n (lv' := [(0, .ref (q 0)), (1, .int (nI a)), (2, .int (nI i)), (3, .int (nI 0))]) hc dX0_fitting_24 rfl (by decide) rfl ?_
        refine z_iconst hc ((nI 0)) dX0_fitting_25 (by decide) ?_
        refine z_istore (lv' := [(0, .ref (q 0)), (1, .int (nI a)), (2, .int (nI i)), (3, .int (nI 0)), (4, .int (nI 0))]) hc dX0_fitting_26 (by decide) rfl ?_
        have Lp : ∀ (f : Nat) (t : Unit), f ≤ 7 → True → zG X (eW (zx_K X) q) 5 S [(0, .ref (q 0)), (1, .int (nI a)), (2, .int (nI i)), (3, .int (nI (ctP p f))), (4, .int (nI f))] 28 [] := by
          refine z_loop 7 (fun _ _ => True) _ (fun f t hf hI ih => ?_)
          refine z_iload hc dX0_fitting_28 4 rfl ?_
          refine z_bipush hc ((nI 7)) dX0_fitting_30 (by decide) ?_
          refine z_icmp_ge hc 72 dX0_fitting_32 (by decide) (toInt_nI (by omega)) (toInt_nI (by omega)) (fun h5 => ?_) (fun h5 => ?_)
          · have e : f = 7 := by omega
            subst e
            refine z_iload_n hc dX0_fitting_72 3 rfl rfl ?_
            exact z_iret hc hr rfl dX0_fitting_73 (⟨by unfold ftE; rw [tn_nI (by omega), tn_nI (by omega), if_pos ⟨h2', by omega, h4⟩, hp], rfl⟩)
          · refine z_iload_n hc dX0_fitting_35 3 rfl rfl ?_
            refine z_aload_n hc dX0_fitting_36 0 rfl rfl ?_
            refine z_iload hc dX0_fitting_37 4 rfl ?_
            refine z_callVi (ci := 0) (q0 := 0) (As := [.int (nI f)]) (rest := [.int (nI (ctP p f))]) hc (e_has _ _ q S (nI f) k1) gX0_has aX0_has (by decide) rfl rfl rfl rfl (Nat.le_of_ble_eq_true rfl) dX0_fitting_39 (fun rx Sx h6 => ?_)
            rw [h6.1, h6.2, hasI_n (by omega)]
            refine z_ifeqB hc 63 dX0_fitting_42 (by decide) (fun h7 => ?_) (fun h7 => ?_)
            · refine z_iconst hc ((nI 0)) dX0_fitting_63 (by decide) ?_
              refine z_iadd (a := ctP p f) (b := 0) hc dX0_fitting_64 ?_
              refine z_nat (b := ctP p (f + 1)) (ctP_0 (n := f) (by rw [hp]; show (hsN S f && _) = false; rw [h7]; rfl)) ?_
              refine z_istore_n (lv' := [(0, .ref (q 0)), (1, .int (nI a)), (2, .int (nI i)), (3, .int (nI (ctP p (f + 1)))), (4, .int (nI f))]) hc dX0_fitting_65 rfl (by decide) rfl ?_
              refine z_iinc (a := f) (lv' := [(0, .ref (q 0)), (1, .int (nI a)), (2, .int (nI i)), (3, .int (nI (ctP p (f + 1)))), (4, .int (nI (f + 1)))]) hc dX0_fitting_66 4 rfl (by decide) rfl ?_
              refine z_goto hc 28 dX0_fitting_69 (by decide) ?_
              exact ih (by omega) () trivial
            · refine z_aload_n hc dX0_fitting_45 0 rfl rfl ?_
              refine z_iload_n hc dX0_fitting_46 1 rfl rfl ?_
              refine z_iconst hc ((nI 3)) dX0_fitting_47 (by decide) ?_
              refine z_imul (a := a) (b := 3) hc dX0_fitting_48 ?_
              refine z_iload_n hc dX0_fitting_49 2 rfl rfl ?_
              refine z_iadd (a := a * 3) (b := i) hc dX0_fitting_50 ?_
              refine z_iload hc dX0_fitting_51 4 rfl ?_
              refine z_callVi (ci := 0) (q0 := 0) (As := [.int (nI ((a * 3) + i)), .int (nI f)]) (rest := [.int (nI (ctP p f))]) hc (e_looksRight _ _ q S (a * 3 + i) f k1 (by omega) (by omega)) gX0_looksRight aX0_looksRight (by decide) rfl rfl rfl rfl (Nat.le_of_ble_eq_true rfl) dX0_fitting_53 (fun rx Sx h8 => ?_)
              rw [h8.1, h8.2]
              refine z_ifeqB hc 63 dX0_fitting_56 (by decide) (fun h9 => ?_) (fun h9 => ?_)
              · refine z_iconst hc ((nI 0)) dX0_fitting_63 (by decide) ?_
                refine z_iadd (a := ctP p f) (b := 0) hc dX0_fitting_64 ?_
                refine z_nat (b := ctP p (f + 1)) (ctP_0 (n := f) (by rw [hp]; show (hsN S f && lrP S (a * 3 + i) f) = false; rw [h7, h9]; rfl)) ?_
                refine z_istore_n (lv' := [(0, .ref (q 0)), (1, .int (nI a)), (2, .int (nI i)), (3, .int (nI (ctP p (f + 1)))), (4, .int (nI f))]) hc dX0_fitting_65 rfl (by decide) rfl ?_
                refine z_iinc (a := f) (lv' := [(0, .ref (q 0)), (1, .int (nI a)), (2, .int (nI i)), (3, .int (nI (ctP p (f + 1)))), (4, .int (nI (f + 1)))]) hc dX0_fitting_66 4 rfl (by decide) rfl ?_
                refine z_goto hc 28 dX0_fitting_69 (by decide) ?_
                exact ih (by omega) () trivial
              · refine z_iconst hc ((nI 1)) dX0_fitting_59 (by decide) ?_
                refine z_goto hc 64 dX0_fitting_60 (by decide) ?_
                refine z_iadd (a := ctP p f) (b := 1) hc dX0_fitting_64 ?_
                refine z_nat (b := ctP p (f + 1)) (ctP_1 (by rw [hp]; show (hsN S f && lrP S (a * 3 + i) f) = true; rw [h7, h9]; rfl)) ?_
                refine z_istore_n (lv' := [(0, .ref (q 0)), (1, .int (nI a)), (2, .int (nI i)), (3, .int (nI (ctP p (f + 1)))), (4, .int (nI f))]) hc dX0_fitting_65 rfl (by decide) rfl ?_
                refine z_iinc (a := f) (lv' := [(0, .ref (q 0)), (1, .int (nI a)), (2, .int (nI i)), (3, .int (nI (ctP p (f + 1)))), (4, .int (nI (f + 1)))]) hc dX0_fitting_66 4 rfl (by decide) rfl ?_
                refine z_goto hc 28 dX0_fitting_69 (by decide) ?_
                exact ih (by omega) () trivial
        exact Lp 0 () (Nat.zero_le _) trivial
      · refine z_iconst hc ((-1)) dX0_fitting_21 (by decide) ?_
        exact z_iret hc hr rfl dX0_fitting_22 (⟨by unfold ftE; rw [tn_nI (by omega), if_neg (fun h => h4 h.2.2)], rfl⟩)
theorem e_partial (l : Launch) (K : zK) (q : Nat → Nat) (S : ES) (x y : Int32) (k1 : eOK S) : zMi l yX0_partial cX0_partial 3 (some .int) (rmH 3) K (eW K q) S [.ref (q 0), .int x, .int y] (fun r S' => r = paE S x y ∧ S' = S) := by
  refine z_entryI RX0 (by decide) rfl (Nat.le_of_ble_eq_true rfl) (lv := [(0, .ref (q 0)), (1, .int x), (2, .int y)]) rfl (fun X hK hl hc hr => ?_)
  subst hK; subst hl
  refine z_iload_n hc dX0_partial_0 1 rfl rfl ?_
  refine z_callSi (As := [.int x]) (rest := []) hc (s_isRule _ _ _ _ x) gX0_isRule aX0_isRule (by decide) rfl rfl (Nat.le_of_ble_eq_true rfl) dX0_partial_1 (fun rx Sx h1 => ?_)
  rw [h1.1, h1.2]
  refine z_ifeqB hc 30 dX0_partial_4 (by decide) (fun h2 => ?_) (fun h2 => ?_)
  · refine z_iconst hc ((-1)) dX0_partial_30 (by decide) ?_
    exact z_iret hc hr rfl dX0_partial_31 (⟨by unfold paE; rw [if_neg (by rw [h2]; exact fun h => absurd h.1 (by decide))], rfl⟩)
  · have h2' := h2
    obtain ⟨a, ka, rfl⟩ : ∃ a : Nat, a < 3 ∧ x = nI a := by unfold isR at h2; have h2 := of_decide_eq_true h2; exact nI_ex h2.1 h2.2
    have b4 : S 4 a < 4 := k1 4 a
    refine z_iload_n hc dX0_partial_7 2 rfl rfl ?_
    refine z_if_lt hc 30 dX0_partial_8 (by decide) rfl (fun h3 => ?_) (fun h3 => ?_)
    · refine z_iconst hc ((-1)) dX0_partial_30 (by decide) ?_
      exact z_iret hc hr rfl dX0_partial_31 (⟨by unfold paE; rw [if_neg (fun h => by have := h.2.1; omega)], rfl⟩)
    · refine z_iload_n hc dX0_partial_11 2 rfl rfl ?_
      refine z_aload_n hc dX0_partial_12 0 rfl rfl ?_
      refine z_eget hc 4 (by decide) q35 rfl dX0_partial_13 ?_
      refine z_iload_n hc dX0_partial_16 1 rfl rfl ?_
      refine z_bald (q0 := 4) (N := 3) (f := S 4) hc rfl (show a < 3 by omega) (by decide) dX0_partial_17 ?_
      refine z_icmp_gt hc 30 dX0_partial_18 (by decide) rfl (toInt_nI (by omega)) (fun h4 => ?_) (fun h4 => ?_)
      · refine z_iconst hc ((-1)) dX0_partial_30 (by decide) ?_
        exact z_iret hc hr rfl dX0_partial_31 (⟨by unfold paE; rw [tn_nI (by omega), if_neg (fun h => absurd h.2.2 (by omega))], rfl⟩)
      · obtain ⟨i, ki, rfl⟩ := nI_ex (x := y) (n := S 4 a + 1) (by omega) (by omega)
        refine z_aload_n hc dX0_partial_21 0 rfl rfl ?_
        refine z_iload_n hc dX0_partial_22 1 rfl rfl ?_
        refine z_iload_n hc dX0_partial_23 2 rfl rfl ?_
        refine z_callVi (ci := 0) (q0 := 0) (As := [.int (nI a), .int (nI i)]) (rest := []) hc (e_countAt _ _ q S a i k1 ka (by omega)) gX0_countAt aX0_countAt (by decide) rfl rfl rfl rfl (Nat.le_of_ble_eq_true rfl) dX0_partial_24 (fun rx Sx h5 => ?_)
        rw [h5.1, h5.2]
        refine z_goto hc 31 dX0_partial_27 (by decide) ?_
        exact z_iret hc hr rfl dX0_partial_31 (⟨by unfold paE; rw [tn_nI (by omega), tn_nI (by omega), if_pos ⟨h2', by omega, by omega⟩], rfl⟩)
theorem e_facts (l : Launch) (K : zK) (q : Nat → Nat) (S : ES)  : zMi l yX0_facts cX0_facts 1 (some .int) (rmH 0) K (eW K q) S [.ref (q 0)] (fun r S' => r = nI (S 0 0) ∧ S' = S) := by
  refine z_entryI RX0 (by decide) rfl (Nat.le_of_ble_eq_true rfl) (lv := [(0, .ref (q 0))]) rfl (fun X hK hl hc hr => ?_)
  subst hK; subst hl
  refine z_aload_n hc dX0_facts_0 0 rfl rfl ?_
  refine z_eget hc 0 (by decide) q31 rfl dX0_facts_1 ?_
  exact z_iret hc hr rfl dX0_facts_4 (⟨rfl, rfl⟩)
end
section
/-! condition, drop, add, remove, effect: walks printed by w17.py -/
set_option maxRecDepth 100000
theorem cdS_ok {S : ES} (h : eOK S) {a w : Nat} (hw : w % 4 ≤ 2) (h4 : S 4 a < 3) : eOK (cdS S a w) := ((((h.up 5 _ (show w % 4 < 3 by omega)).up 6 _ (show w / 4 % 8 < 8 by omega)).up 7 _ (show w / 32 % 8 < 8 by omega)).up 8 _ (show (decide (256 ≤ w)).toNat < 2 from Bool.toNat_lt _)).up 4 _ (show S 4 a + 1 < 4 by omega)
theorem adS_ok {S : ES} (h : eOK S) {f k a b : Nat} (hf : f < 7) (hk : k < 3) (ha : a < 4) (hb : b < 4) : eOK (adS S f k a b) := (((h.up 0 _ (show S 0 0 ||| 2 ^ f < 128 from set_lt _ (h 0 0) f hf)).up 1 _ (show k < 3 from hk)).up 2 _ (show a < 4 from ha)).up 3 _ (show b < 4 from hb)
def chR (S0 : ES) (f : Int) (added : Bool) : Nat → ES → Prop
  | 0, S1 => S1 = S0
  | n + 1, S1 => ∃ Sa, chR S0 f added n Sa ∧ upR Sa S1 n f added
theorem chR_3 {S0 S' : ES} {f : Int} {added : Bool} (h : chR S0 f added 3 S') : up3 S0 S' f added := by
  obtain ⟨Sb, ⟨Sa, ⟨S1, h1, h2⟩, h3⟩, h4⟩ := h
  have h1 : S1 = S0 := h1
  rw [h1] at h2
  exact ⟨Sa, Sb, h2, h3, h4⟩
theorem e_condition (l : Launch) (K : zK) (q : Nat → Nat) (S : ES) (x y : Int32) (k1 : eOK S) : zMi l yX0_condition cX0_condition 4 (some .int) (rmH 6) K (eW K q) S [.ref (q 0), .int x, .int y] (fun r S' => cdR S x y r S' ∧ eOK S') := by
  refine z_entryI RX0 (by decide) rfl (Nat.le_of_ble_eq_true rfl) (lv := [(0, .ref (q 0)), (1, .int x), (2, .int y)]) rfl (fun X hK hl hc hr => ?_)
  subst hK; subst hl
  refine z_iload_n hc dX0_condition_0 1 rfl rfl ?_
  refine z_callSi (As := [.int x]) (rest := []) hc (s_isRule _ _ _ _ x) gX0_isRule aX0_isRule (by decide) rfl rfl (Nat.le_of_ble_eq_true rfl) dX0_condition_1 (fun rx Sx h1 => ?_)
  rw [h1.1, h1.2]
  refine z_ifeqB hc 25 dX0_condition_4 (by decide) (fun h2 => ?_) (fun h2 => ?_)
  · refine z_iconst hc ((-1)) dX0_condition_25 (by decide) ?_
    exact z_iret hc hr rfl dX0_condition_26 (⟨Or.inl ⟨fun h => absurd (h2.symm.trans h.1) (by decide), rfl, rfl⟩, k1⟩)
  · have h2' := h2
    obtain ⟨a, ka, rfl⟩ : ∃ a : Nat, a < 3 ∧ x = nI a := by unfold isR at h2; have h2 := of_decide_eq_true h2; exact nI_ex h2.1 h2.2
    have b4 : S 4 a < 4 := k1 4 a
    refine z_iload_n hc dX0_condition_7 2 rfl rfl ?_
    refine z_if_lt hc 25 dX0_condition_8 (by decide) rfl (fun h3 => ?_) (fun h3 => ?_)
    · refine z_iconst hc ((-1)) dX0_condition_25 (by decide) ?_
      exact z_iret hc hr rfl dX0_condition_26 (⟨Or.inl ⟨fun h => by omega, rfl, rfl⟩, k1⟩)
    · refine z_iload_n hc dX0_condition_11 2 rfl rfl ?_
      refine z_sipush hc ((nI 511)) dX0_condition_12 (by decide) ?_
      refine z_icmp_gt hc 25 dX0_condition_15 (by decide) rfl (toInt_nI (by omega)) (fun h4 => ?_) (fun h4 => ?_)
      · refine z_iconst hc ((-1)) dX0_condition_25 (by decide) ?_
        exact z_iret hc hr rfl dX0_condition_26 (⟨Or.inl ⟨fun h => by omega, rfl, rfl⟩, k1⟩)
      · obtain ⟨w, kw, rfl⟩ := nI_ex (x := y) (n := 512) (by omega) (by omega)
        refine z_iload_n hc dX0_condition_18 2 rfl rfl ?_
        refine z_iconst hc ((nI 3)) dX0_condition_19 (by decide) ?_
        refine z_iandm hc 2 4 dX0_condition_20 (by decide) (by decide) ?_
        refine z_iconst hc ((nI 2)) dX0_condition_21 (by decide) ?_
        refine z_icmp_le hc 27 dX0_condition_22 (by decide) (toInt_nI (by omega)) (toInt_nI (by omega)) (fun h5 => ?_) (fun h5 => ?_)
        · refine z_aload_n hc dX0_condition_27 0 rfl rfl ?_
          refine z_eget hc 4 (by decide) q35 rfl dX0_condition_28 ?_
          refine z_iload_n hc dX0_condition_31 1 rfl rfl ?_
          refine z_bald (q0 := 4) (N := 3) (f := S 4) hc rfl (show a < 3 by omega) (by decide) dX0_condition_32 ?_
          refine z_iconst hc ((nI 3)) dX0_condition_33 (by decide) ?_
          refine z_icmp_lt hc 40 dX0_condition_34 (by decide) (toInt_nI (by omega)) (toInt_nI (by omega)) (fun h6 => ?_) (fun h6 => ?_)
          · refine z_iload_n hc dX0_condition_40 1 rfl rfl ?_
            refine z_iconst hc ((nI 3)) dX0_condition_41 (by decide) ?_
            refine z_imul (a := a) (b := 3) hc dX0_condition_42 ?_
            refine z_aload_n hc dX0_condition_43 0 rfl rfl ?_
            refine z_eget hc 4 (by decide) q35 rfl dX0_condition_44 ?_
            refine z_iload_n hc dX0_condition_47 1 rfl rfl ?_
            refine z_bald (q0 := 4) (N := 3) (f := S 4) hc rfl (show a < 3 by omega) (by decide) dX0_condition_48 ?_
            refine z_iadd (a := a * 3) (b := S 4 a) hc dX0_condition_49 ?_
            refine z_istore_n (lv' := [(0, .ref (q 0)), (1, .int (nI a)), (2, .int (nI w)), (3, .int (nI ((a * 3) + (S 4 a))))]) hc dX0_condition_50 rfl (by decide) rfl ?_
            refine z_aload_n hc dX0_condition_51 0 rfl rfl ?_
            refine z_eget hc 5 (by decide) q36 rfl dX0_condition_52 ?_
            refine z_iload_n hc dX0_condition_55 3 rfl rfl ?_
            refine z_iload_n hc dX0_condition_56 2 rfl rfl ?_
            refine z_iconst hc ((nI 3)) dX0_condition_57 (by decide) ?_
            refine z_iandm hc 2 4 dX0_condition_58 (by decide) (by decide) ?_
            refine z_i2b hc dX0_condition_59 (by omega) ?_
            refine z_bast (q0 := 5) (N := 9) (f := S 5) hc rfl (show (a * 3) + (S 4 a) < 9 by omega) (by decide) (show w % 4 < 128 by omega) (eW_set5 _ _ _ _ _) dX0_condition_60 ?_
            refine z_aload_n hc dX0_condition_61 0 rfl rfl ?_
            refine z_eget hc 6 (by decide) q37 rfl dX0_condition_62 ?_
            refine z_iload_n hc dX0_condition_65 3 rfl rfl ?_
            refine z_iload_n hc dX0_condition_66 2 rfl rfl ?_
            refine z_iconst hc ((nI 2)) dX0_condition_67 (by decide) ?_
            refine z_ishr hc dX0_condition_68 (4) (by decide) (by omega) (by omega) ?_
            refine z_bipush hc ((nI 7)) dX0_condition_69 (by decide) ?_
            refine z_iandm hc 3 8 dX0_condition_71 (by decide) (by decide) ?_
            refine z_i2b hc dX0_condition_72 (by omega) ?_
            refine z_bast (q0 := 6) (N := 9) (f := (up2 S 5 ((a * 3) + (S 4 a)) (w % 4)) 6) hc rfl (show (a * 3) + (S 4 a) < 9 by omega) (by decide) (show (w / 4) % 8 < 128 by omega) (eW_set6 _ _ _ _ _) dX0_condition_73 ?_
            refine z_aload_n hc dX0_condition_74 0 rfl rfl ?_
            refine z_eget hc 7 (by decide) q38 rfl dX0_condition_75 ?_
            refine z_iload_n hc dX0_condition_78 3 rfl rfl ?_
            refine z_iload_n hc dX0_condition_79 2 rfl rfl ?_
            refine z_iconst hc ((nI 5)) dX0_condition_80 (by decide) ?_
            refine z_ishr hc dX0_condition_81 (32) (by decide) (by omega) (by omega) ?_
            refine z_bipush hc ((nI 7)) dX0_condition_82 (by decide) ?_
            refine z_iandm hc 3 8 dX0_condition_84 (by decide) (by decide) ?_
            refine z_i2b hc dX0_condition_85 (by omega) ?_
            refine z_bast (q0 := 7) (N := 9) (f := (up2 (up2 S 5 ((a * 3) + (S 4 a)) (w % 4)) 6 ((a * 3) + (S 4 a)) ((w / 4) % 8)) 7) hc rfl (show (a * 3) + (S 4 a) < 9 by omega) (by decide) (show (w / 32) % 8 < 128 by omega) (eW_set7 _ _ _ _ _) dX0_condition_86 ?_
            refine z_aload_n hc dX0_condition_87 0 rfl rfl ?_
            refine z_eget hc 8 (by decide) q39 rfl dX0_condition_88 ?_
            refine z_iload_n hc dX0_condition_91 3 rfl rfl ?_
            refine z_iload_n hc dX0_condition_92 2 rfl rfl ?_
            refine z_sipush hc ((nI 256)) dX0_condition_93 (by decide) ?_
            refine z_icmp_lt hc 103 dX0_condition_96 (by decide) (toInt_nI (by omega)) (toInt_nI (by omega)) (fun h7 => ?_) (fun h7 => ?_)
            · refine z_iconst hc ((nI 0)) dX0_condition_103 (by decide) ?_
              refine z_nat (b := (decide (256 ≤ w)).toNat) (by rw [decide_eq_false (by omega)]; rfl) ?_
              refine z_zast (q0 := 8) (N := 9) (f := (up2 (up2 (up2 S 5 ((a * 3) + (S 4 a)) (w % 4)) 6 ((a * 3) + (S 4 a)) ((w / 4) % 8)) 7 ((a * 3) + (S 4 a)) ((w / 32) % 8)) 8) hc rfl (show (a * 3) + (S 4 a) < 9 by first | omega | exact Bool.toNat_lt _) (by decide) (show (decide (256 ≤ w)).toNat < 2 by first | omega | exact Bool.toNat_lt _) (eW_set8 _ _ _ _ _) dX0_condition_104 ?_
              refine z_aload_n hc dX0_condition_105 0 rfl rfl ?_
              refine z_eget hc 4 (by decide) q35 rfl dX0_condition_106 ?_
              refine z_iload_n hc dX0_condition_109 1 rfl rfl ?_
              refine z_dup2 hc dX0_condition_110 rfl rfl ?_
              refine z_bald (q0 := 4) (N := 3) (f := (up2 (up2 (up2 (up2 S 5 ((a * 3) + (S 4 a)) (w % 4)) 6 ((a * 3) + (S 4 a)) ((w / 4) % 8)) 7 ((a * 3) + (S 4 a)) ((w / 32) % 8)) 8 ((a * 3) + (S 4 a)) ((decide (256 ≤ w)).toNat)) 4) hc rfl (show a < 3 by omega) (by decide) dX0_condition_111 ?_
              refine z_nat (b := S 4 a) (rfl) ?_
              refine z_iconst hc ((nI 1)) dX0_condition_112 (by decide) ?_
              refine z_iadd (a := S 4 a) (b := 1) hc dX0_condition_113 ?_
              refine z_i2b hc dX0_condition_114 (by omega) ?_
              refine z_bast (q0 := 4) (N := 3) (f := (up2 (up2 (up2 (up2 S 5 ((a * 3) + (S 4 a)) (w % 4)) 6 ((a * 3) + (S 4 a)) ((w / 4) % 8)) 7 ((a * 3) + (S 4 a)) ((w / 32) % 8)) 8 ((a * 3) + (S 4 a)) ((decide (256 ≤ w)).toNat)) 4) hc rfl (show a < 3 by omega) (by decide) (show (S 4 a) + 1 < 128 by omega) (eW_set4 _ _ _ _ _) dX0_condition_115 ?_
              refine z_S (S' := cdS S a w) rfl ?_
              refine z_aload_n hc dX0_condition_116 0 rfl rfl ?_
              refine z_iload_n hc dX0_condition_117 1 rfl rfl ?_
              refine z_iconst hc ((-1)) dX0_condition_118 (by decide) ?_
              refine z_iconst hc ((nI 1)) dX0_condition_119 (by decide) ?_
              refine z_callVv (ci := 0) (q0 := 0) (As := [.int (nI a), .int (-1), .int (nI 1)]) (rest := []) hc (e_update _ _ q (cdS S a w) a (-1) true (cdS_ok k1 (by omega) (by omega)) ka (Or.inl (by decide))) gX0_update aX0_update (by decide) rfl rfl rfl rfl (Nat.le_of_ble_eq_true rfl) dX0_condition_120 (fun S1 h8 => ?_)
              obtain ⟨g1, g2, g3⟩ := h8
              rw [show (-1 : Int32).toInt = -1 from by decide] at g1
              refine z_aload_n hc dX0_condition_123 0 rfl rfl ?_
              refine z_eget hc 4 (by decide) q35 rfl dX0_condition_124 ?_
              refine z_iload_n hc dX0_condition_127 1 rfl rfl ?_
              refine z_bald (q0 := 4) (N := 3) (f := S1 4) hc rfl (show a < 3 by omega) (by decide) dX0_condition_128 ?_
              refine z_nat (b := S 4 a + 1) (by rw [g2 4 (by decide)]; show up2 _ 4 a _ 4 a = _; rw [up2_s, updN_s]) ?_
              exact z_iret hc hr rfl dX0_condition_129 (⟨Or.inr ⟨a, w, ka, kw, by omega, rfl, rfl, Or.inr ⟨by omega, rfl, g1, g2, g3⟩⟩, g3⟩)
            · refine z_iconst hc ((nI 1)) dX0_condition_99 (by decide) ?_
              refine z_goto hc 104 dX0_condition_100 (by decide) ?_
              refine z_nat (b := (decide (256 ≤ w)).toNat) (by rw [decide_eq_true (by omega)]; rfl) ?_
              refine z_zast (q0 := 8) (N := 9) (f := (up2 (up2 (up2 S 5 ((a * 3) + (S 4 a)) (w % 4)) 6 ((a * 3) + (S 4 a)) ((w / 4) % 8)) 7 ((a * 3) + (S 4 a)) ((w / 32) % 8)) 8) hc rfl (show (a * 3) + (S 4 a) < 9 by first | omega | exact Bool.toNat_lt _) (by decide) (show (decide (256 ≤ w)).toNat < 2 by first | omega | exact Bool.toNat_lt _) (eW_set8 _ _ _ _ _) dX0_condition_104 ?_
              refine z_aload_n hc dX0_condition_105 0 rfl rfl ?_
              refine z_eget hc 4 (by decide) q35 rfl dX0_condition_106 ?_
              refine z_iload_n hc dX0_condition_109 1 rfl rfl ?_
              refine z_dup2 hc dX0_condition_110 rfl rfl ?_
              refine z_bald (q0 := 4) (N := 3) (f := (up2 (up2 (up2 (up2 S 5 ((a * 3) + (S 4 a)) (w % 4)) 6 ((a * 3) + (S 4 a)) ((w / 4) % 8)) 7 ((a * 3) + (S 4 a)) ((w / 32) % 8)) 8 ((a * 3) + (S 4 a)) ((decide (256 ≤ w)).toNat)) 4) hc rfl (show a < 3 by omega) (by decide) dX0_condition_111 ?_
              refine z_nat (b := S 4 a) (rfl) ?_
              refine z_iconst hc ((nI 1)) dX0_condition_112 (by decide) ?_
              refine z_iadd (a := S 4 a) (b := 1) hc dX0_condition_113 ?_
              refine z_i2b hc dX0_condition_114 (by omega) ?_
              refine z_bast (q0 := 4) (N := 3) (f := (up2 (up2 (up2 (up2 S 5 ((a * 3) + (S 4 a)) (w % 4)) 6 ((a * 3) + (S 4 a)) ((w / 4) % 8)) 7 ((a * 3) + (S 4 a)) ((w / 32) % 8)) 8 ((a * 3) + (S 4 a)) ((decide (256 ≤ w)).toNat)) 4) hc rfl (show a < 3 by omega) (by decide) (show (S 4 a) + 1 < 128 by omega) (eW_set4 _ _ _ _ _) dX0_condition_115 ?_
              refine z_S (S' := cdS S a w) rfl ?_
              refine z_aload_n hc dX0_condition_116 0 rfl rfl ?_
              refine z_iload_n hc dX0_condition_117 1 rfl rfl ?_
              refine z_iconst hc ((-1)) dX0_condition_118 (by decide) ?_
              refine z_iconst hc ((nI 1)) dX0_condition_119 (by decide) ?_
              refine z_callVv (ci := 0) (q0 := 0) (As := [.int (nI a), .int (-1), .int (nI 1)]) (rest := []) hc (e_update _ _ q (cdS S a w) a (-1) true (cdS_ok k1 (by omega) (by omega)) ka (Or.inl (by decide))) gX0_update aX0_update (by decide) rfl rfl rfl rfl (Nat.le_of_ble_eq_true rfl) dX0_condition_120 (fun S1 h8 => ?_)
              obtain ⟨g1, g2, g3⟩ := h8
              rw [show (-1 : Int32).toInt = -1 from by decide] at g1
              refine z_aload_n hc dX0_condition_123 0 rfl rfl ?_
              refine z_eget hc 4 (by decide) q35 rfl dX0_condition_124 ?_
              refine z_iload_n hc dX0_condition_127 1 rfl rfl ?_
              refine z_bald (q0 := 4) (N := 3) (f := S1 4) hc rfl (show a < 3 by omega) (by decide) dX0_condition_128 ?_
              refine z_nat (b := S 4 a + 1) (by rw [g2 4 (by decide)]; show up2 _ 4 a _ 4 a = _; rw [up2_s, updN_s]) ?_
              exact z_iret hc hr rfl dX0_condition_129 (⟨Or.inr ⟨a, w, ka, kw, by omega, rfl, rfl, Or.inr ⟨by omega, rfl, g1, g2, g3⟩⟩, g3⟩)
          · refine z_bipush hc ((-2)) dX0_condition_37 (by decide) ?_
            exact z_iret hc hr rfl dX0_condition_39 (⟨Or.inr ⟨a, w, ka, kw, by omega, rfl, rfl, Or.inl ⟨by omega, rfl, rfl⟩⟩, k1⟩)
        · refine z_iconst hc ((-1)) dX0_condition_25 (by decide) ?_
          exact z_iret hc hr rfl dX0_condition_26 (⟨Or.inl ⟨fun h => by rw [tn_nI (by omega)] at h; omega, rfl, rfl⟩, k1⟩)
theorem e_drop (l : Launch) (K : zK) (q : Nat → Nat) (S : ES) (x : Int32) (k1 : eOK S) : zMi l yX0_drop cX0_drop 2 (some .int) (rmH 6) K (eW K q) S [.ref (q 0), .int x] (fun r S' => dpR S x r S' ∧ eOK S') := by
  refine z_entryI RX0 (by decide) rfl (Nat.le_of_ble_eq_true rfl) (lv := [(0, .ref (q 0)), (1, .int x)]) rfl (fun X hK hl hc hr => ?_)
  subst hK; subst hl
  refine z_iload_n hc dX0_drop_0 1 rfl rfl ?_
  refine z_callSi (As := [.int x]) (rest := []) hc (s_isRule _ _ _ _ x) gX0_isRule aX0_isRule (by decide) rfl rfl (Nat.le_of_ble_eq_true rfl) dX0_drop_1 (fun rx Sx h1 => ?_)
  rw [h1.1, h1.2]
  refine z_ifeqB hc 16 dX0_drop_4 (by decide) (fun h2 => ?_) (fun h2 => ?_)
  · refine z_iconst hc ((-1)) dX0_drop_16 (by decide) ?_
    exact z_iret hc hr rfl dX0_drop_17 (⟨Or.inl ⟨h2, rfl, rfl⟩, k1⟩)
  · obtain ⟨a, ka, rfl⟩ : ∃ a : Nat, a < 3 ∧ x = nI a := by unfold isR at h2; have h2 := of_decide_eq_true h2; exact nI_ex h2.1 h2.2
    have b4 : S 4 a < 4 := k1 4 a
    refine z_aload_n hc dX0_drop_7 0 rfl rfl ?_
    refine z_eget hc 4 (by decide) q35 rfl dX0_drop_8 ?_
    refine z_iload_n hc dX0_drop_11 1 rfl rfl ?_
    refine z_bald (q0 := 4) (N := 3) (f := S 4) hc rfl (show a < 3 by omega) (by decide) dX0_drop_12 ?_
    refine z_if_ne hc 18 dX0_drop_13 (by decide) (toInt_nI (by omega)) (fun h3 => ?_) (fun h3 => ?_)
    · have h4 : 0 < S 4 a := by omega
      refine z_aload_n hc dX0_drop_18 0 rfl rfl ?_
      refine z_eget hc 4 (by decide) q35 rfl dX0_drop_19 ?_
      refine z_iload_n hc dX0_drop_22 1 rfl rfl ?_
      refine z_dup2 hc dX0_drop_23 rfl rfl ?_
      refine z_bald (q0 := 4) (N := 3) (f := S 4) hc rfl (show a < 3 by omega) (by decide) dX0_drop_24 ?_
      refine z_iconst hc ((nI 1)) dX0_drop_25 (by decide) ?_
      refine z_isub (a := S 4 a) (b := 1) hc dX0_drop_26 (by omega) ?_
      refine z_i2b hc dX0_drop_27 (by omega) ?_
      refine z_bast (q0 := 4) (N := 3) (f := S 4) hc rfl (show a < 3 by omega) (by decide) (show (S 4 a) - 1 < 128 by omega) (eW_set4 _ _ _ _ _) dX0_drop_28 ?_
      refine z_aload_n hc dX0_drop_29 0 rfl rfl ?_
      refine z_iload_n hc dX0_drop_30 1 rfl rfl ?_
      refine z_iconst hc ((-1)) dX0_drop_31 (by decide) ?_
      refine z_iconst hc ((nI 1)) dX0_drop_32 (by decide) ?_
      refine z_callVv (ci := 0) (q0 := 0) (As := [.int (nI a), .int (-1), .int (nI 1)]) (rest := []) hc (e_update _ _ q (up2 S 4 a (S 4 a - 1)) a (-1) true (k1.up 4 _ (show S 4 a - 1 < 4 by omega)) ka (Or.inl (by decide))) gX0_update aX0_update (by decide) rfl rfl rfl rfl (Nat.le_of_ble_eq_true rfl) dX0_drop_33 (fun S1 h8 => ?_)
      obtain ⟨g1, g2, g3⟩ := h8
      rw [show (-1 : Int32).toInt = -1 from by decide] at g1
      refine z_aload_n hc dX0_drop_36 0 rfl rfl ?_
      refine z_eget hc 4 (by decide) q35 rfl dX0_drop_37 ?_
      refine z_iload_n hc dX0_drop_40 1 rfl rfl ?_
      refine z_bald (q0 := 4) (N := 3) (f := S1 4) hc rfl (show a < 3 by omega) (by decide) dX0_drop_41 ?_
      refine z_nat (b := S 4 a - 1) (by rw [g2 4 (by decide), up2_s, updN_s]) ?_
      exact z_iret hc hr rfl dX0_drop_42 (⟨Or.inr ⟨a, ka, rfl, Or.inr ⟨h4, rfl, g1, g2, g3⟩⟩, g3⟩)
    · refine z_iconst hc ((-1)) dX0_drop_16 (by decide) ?_
      exact z_iret hc hr rfl dX0_drop_17 (⟨Or.inr ⟨a, ka, rfl, Or.inl ⟨by omega, rfl, rfl⟩⟩, k1⟩)
theorem e_add (l : Launch) (K : zK) (q : Nat → Nat) (S : ES) (x y z : Int32) (k1 : eOK S) : zMi l yX0_add cX0_add 6 (some .int) (rmH 6) K (eW K q) S [.ref (q 0), .int x, .int y, .int z] (fun r S' => adR S x y z r S' ∧ eOK S') := by
  refine z_entryI RX0 (by decide) rfl (Nat.le_of_ble_eq_true rfl) (lv := [(0, .ref (q 0)), (1, .int x), (2, .int y), (3, .int z)]) rfl (fun X hK hl hc hr => ?_)
  subst hK; subst hl
  refine z_iload_n hc dX0_add_0 1 rfl rfl ?_
  refine z_iload_n hc dX0_add_1 2 rfl rfl ?_
  refine z_iload_n hc dX0_add_2 3 rfl rfl ?_
  refine z_callSi (As := [.int x, .int y, .int z]) (rest := []) hc (s_factOk _ _ _ _ x y z) gX0_factOk aX0_factOk (by decide) rfl rfl (Nat.le_of_ble_eq_true rfl) dX0_add_3 (fun rx Sx h1 => ?_)
  rw [h1.1, h1.2]
  refine z_ifneB hc 11 dX0_add_6 (by decide) (fun h2 => ?_) (fun h2 => ?_)
  · have h2' := of_decide_eq_true h2
    obtain ⟨k, kk, rfl⟩ := nI_ex (x := x) (n := 3) (by omega) (by omega)
    obtain ⟨a, ka, rfl⟩ := nI_ex (x := y) (n := 4) (by omega) (by omega)
    obtain ⟨b, kb, rfl⟩ := nI_ex (x := z) (n := 4) (by omega) (by omega)
    have b0 : S 0 0 < 128 := k1 0 0
    refine z_iconst hc ((nI 0)) dX0_add_11 (by decide) ?_
    refine z_istore (lv' := [(0, .ref (q 0)), (1, .int (nI k)), (2, .int (nI a)), (3, .int (nI b)), (4, .int (nI 0))]) hc dX0_add_12 (by decide) rfl ?_
    have L1 : ∀ (f : Nat) (t : Unit), f ≤ 7 → (∀ g, g < f → hsN S g = true) → zG X (eW (zx_K X) q) 6 S [(0, .ref (q 0)), (1, .int (nI k)), (2, .int (nI a)), (3, .int (nI b)), (4, .int (nI f))] 14 [] := by
      refine z_loop 7 (fun f _ => ∀ g, g < f → hsN S g = true) _ (fun f t hf hI ih => ?_)
      refine z_iload hc dX0_add_14 4 rfl ?_
      refine z_bipush hc ((nI 7)) dX0_add_16 (by decide) ?_
      refine z_icmp_ge hc 103 dX0_add_18 (by decide) (toInt_nI (by omega)) (toInt_nI (by omega)) (fun h3 => ?_) (fun h3 => ?_)
      · have e : f = 7 := by omega
        subst e
        refine z_bipush hc ((-2)) dX0_add_103 (by decide) ?_
        exact z_iret hc hr rfl dX0_add_105 (⟨Or.inr ⟨k, a, b, kk, ka, kb, rfl, rfl, rfl, Or.inl ⟨hI, rfl, rfl⟩⟩, k1⟩)
      · have kf : f < 7 := by omega
        have q1 : 2 ^ f ≤ 2 ^ 7 := Nat.pow_le_pow_right (by decide) (by omega)
        refine z_aload_n hc dX0_add_21 0 rfl rfl ?_
        refine z_iload hc dX0_add_22 4 rfl ?_
        refine z_callVi (ci := 0) (q0 := 0) (As := [.int (nI f)]) (rest := []) hc (e_has _ _ q S (nI f) k1) gX0_has aX0_has (by decide) rfl rfl rfl rfl (Nat.le_of_ble_eq_true rfl) dX0_add_24 (fun rx Sx h4 => ?_)
        rw [h4.1, h4.2, hasI_n kf]
        refine z_ifneB hc 97 dX0_add_27 (by decide) (fun h5 => ?_) (fun h5 => ?_)
        · refine z_iinc (a := f) (lv' := [(0, .ref (q 0)), (1, .int (nI k)), (2, .int (nI a)), (3, .int (nI b)), (4, .int (nI (f + 1)))]) hc dX0_add_97 4 rfl (by decide) rfl ?_
          refine z_goto hc 14 dX0_add_100 (by decide) ?_
          refine ih kf () (fun g hg => ?_)
          by_cases e : g = f
          · rw [e]; exact h5
          · exact hI g (by omega)
        · refine z_aload_n hc dX0_add_30 0 rfl rfl ?_
          refine z_dup hc dX0_add_31 rfl ?_
          refine z_eget hc 0 (by decide) q31 rfl dX0_add_32 ?_
          refine z_iconst hc ((nI 1)) dX0_add_35 (by decide) ?_
          refine z_iload hc dX0_add_36 4 rfl ?_
          refine z_ishl hc dX0_add_38 (2 ^ f) rfl (by omega) (by omega) ?_
          refine z_nat (b := 2 ^ f) (Nat.one_mul _) ?_
          refine z_ior (a := S 0 0) (b := 2 ^ f) hc dX0_add_39 ?_
          refine z_eput hc q31 dX0_add_40 ?_
          refine z_aload_n hc dX0_add_43 0 rfl rfl ?_
          refine z_eget hc 1 (by decide) q32 rfl dX0_add_44 ?_
          refine z_iload hc dX0_add_47 4 rfl ?_
          refine z_iload_n hc dX0_add_49 1 rfl rfl ?_
          refine z_i2b hc dX0_add_50 (by omega) ?_
          refine z_bast (q0 := 1) (N := 7) (f := (up2 S 0 0 ((S 0 0) ||| (2 ^ f))) 1) hc rfl (show f < 7 by omega) (by decide) (show k < 128 by omega) (eW_set1 _ _ _ _ _) dX0_add_51 ?_
          refine z_aload_n hc dX0_add_52 0 rfl rfl ?_
          refine z_eget hc 2 (by decide) q33 rfl dX0_add_53 ?_
          refine z_iload hc dX0_add_56 4 rfl ?_
          refine z_iload_n hc dX0_add_58 2 rfl rfl ?_
          refine z_i2b hc dX0_add_59 (by omega) ?_
          refine z_bast (q0 := 2) (N := 7) (f := (up2 (up2 S 0 0 ((S 0 0) ||| (2 ^ f))) 1 f k) 2) hc rfl (show f < 7 by omega) (by decide) (show a < 128 by omega) (eW_set2 _ _ _ _ _) dX0_add_60 ?_
          refine z_aload_n hc dX0_add_61 0 rfl rfl ?_
          refine z_eget hc 3 (by decide) q34 rfl dX0_add_62 ?_
          refine z_iload hc dX0_add_65 4 rfl ?_
          refine z_iload_n hc dX0_add_67 3 rfl rfl ?_
          refine z_i2b hc dX0_add_68 (by omega) ?_
          refine z_bast (q0 := 3) (N := 7) (f := (up2 (up2 (up2 S 0 0 ((S 0 0) ||| (2 ^ f))) 1 f k) 2 f a) 3) hc rfl (show f < 7 by omega) (by decide) (show b < 128 by omega) (eW_set3 _ _ _ _ _) dX0_add_69 ?_
          refine z_iconst hc ((nI 0)) dX0_add_70 (by decide) ?_
          refine z_istore (lv' := [(0, .ref (q 0)), (1, .int (nI k)), (2, .int (nI a)), (3, .int (nI b)), (4, .int (nI f)), (5, .int (nI 0))]) hc dX0_add_71 (by decide) rfl ?_
          have L2 : ∀ (r : Nat) (S1 : ES), r ≤ 3 → (chR (adS S f k a b) (f : Int) true r S1 ∧ eOK S1) → zG X (eW (zx_K X) q) 6 S1 [(0, .ref (q 0)), (1, .int (nI k)), (2, .int (nI a)), (3, .int (nI b)), (4, .int (nI f)), (5, .int (nI r))] 73 [] := by
            refine z_loop 3 _ _ (fun r S1 hr3 hI ih => ?_)
            obtain ⟨i1, i2⟩ := hI
            refine z_iload hc dX0_add_73 5 rfl ?_
            refine z_iconst hc ((nI 3)) dX0_add_75 (by decide) ?_
            refine z_icmp_ge hc 94 dX0_add_76 (by decide) (toInt_nI (by omega)) (toInt_nI (by omega)) (fun h7 => ?_) (fun h7 => ?_)
            · have e : r = 3 := by omega
              subst e
              refine z_iload hc dX0_add_94 4 rfl ?_
              exact z_iret hc hr rfl dX0_add_96 (⟨Or.inr ⟨k, a, b, kk, ka, kb, rfl, rfl, rfl, Or.inr ⟨f, kf, hI, h5, rfl, chR_3 i1⟩⟩, i2⟩)
            · refine z_aload_n hc dX0_add_79 0 rfl rfl ?_
              refine z_iload hc dX0_add_80 5 rfl ?_
              refine z_iload hc dX0_add_82 4 rfl ?_
              refine z_iconst hc ((nI 1)) dX0_add_84 (by decide) ?_
              refine z_callVv (ci := 0) (q0 := 0) (As := [.int (nI r), .int (nI f), .int (nI 1)]) (rest := []) hc (e_update _ _ q S1 r (nI f) true i2 (by omega) (Or.inr ⟨f, kf, rfl⟩)) gX0_update aX0_update (by decide) rfl rfl rfl rfl (Nat.le_of_ble_eq_true rfl) dX0_add_85 (fun S2 h8 => ?_)
              rw [toInt_nI (by omega)] at h8
              refine z_iinc (a := r) (lv' := [(0, .ref (q 0)), (1, .int (nI k)), (2, .int (nI a)), (3, .int (nI b)), (4, .int (nI f)), (5, .int (nI (r + 1)))]) hc dX0_add_88 5 rfl (by decide) rfl ?_
              refine z_goto hc 73 dX0_add_91 (by decide) ?_
              exact ih (by omega) S2 ⟨⟨S1, i1, h8⟩, h8.2.2⟩
          exact L2 0 _ (by decide) ⟨rfl, adS_ok k1 kf kk ka kb⟩
    exact L1 0 () (by decide) (fun g hg => absurd hg (Nat.not_lt_zero g))
  · refine z_iconst hc ((-1)) dX0_add_9 (by decide) ?_
    exact z_iret hc hr rfl dX0_add_10 (⟨Or.inl ⟨h2, rfl, rfl⟩, k1⟩)
theorem e_remove (l : Launch) (K : zK) (q : Nat → Nat) (S : ES) (x : Int32) (k1 : eOK S) : zMi l yX0_remove cX0_remove 3 (some .boolean) (rmH 6) K (eW K q) S [.ref (q 0), .int x] (fun r S' => rmR S x r S' ∧ eOK S') := by
  refine z_entryI RX0 (by decide) rfl (Nat.le_of_ble_eq_true rfl) (lv := [(0, .ref (q 0)), (1, .int x)]) rfl (fun X hK hl hc hr => ?_)
  subst hK; subst hl
  refine z_aload_n hc dX0_remove_0 0 rfl rfl ?_
  refine z_iload_n hc dX0_remove_1 1 rfl rfl ?_
  refine z_callVi (ci := 0) (q0 := 0) (As := [.int x]) (rest := []) hc (e_has _ _ q S x k1) gX0_has aX0_has (by decide) rfl rfl rfl rfl (Nat.le_of_ble_eq_true rfl) dX0_remove_2 (fun rx Sx h1 => ?_)
  rw [h1.1, h1.2]
  refine z_ifneB hc 10 dX0_remove_5 (by decide) (fun h2 => ?_) (fun h2 => ?_)
  · obtain ⟨f, kf, rfl⟩ : ∃ f : Nat, f < 7 ∧ x = nI f := by unfold hasI at h2; have h2 := of_decide_eq_true (Bool.and_eq_true_iff.mp h2).1; exact nI_ex h2.1 h2.2
    rw [hasI_n kf] at h2
    have b0 : S 0 0 < 128 := k1 0 0
    have q1 : 2 ^ f ≤ 2 ^ 7 := Nat.pow_le_pow_right (by decide) (by omega)
    refine z_aload_n hc dX0_remove_10 0 rfl rfl ?_
    refine z_dup hc dX0_remove_11 rfl ?_
    refine z_eget hc 0 (by decide) q31 rfl dX0_remove_12 ?_
    refine z_iconst hc ((nI 1)) dX0_remove_15 (by decide) ?_
    refine z_iload_n hc dX0_remove_16 1 rfl rfl ?_
    refine z_ishl hc dX0_remove_17 (2 ^ f) rfl (by omega) (by omega) ?_
    refine z_iconst hc ((-1)) dX0_remove_18 (by decide) ?_
    refine z_ixorR hc (nI (1 * 2 ^ f) ^^^ (-1)) dX0_remove_19 rfl ?_
    refine z_iandR hc (nI (S 0 0 - 2 ^ f)) dX0_remove_20 (clr_e _ b0 f kf h2) ?_
    refine z_eput hc q31 dX0_remove_21 ?_
    refine z_iconst hc ((nI 0)) dX0_remove_24 (by decide) ?_
    refine z_istore_n (lv' := [(0, .ref (q 0)), (1, .int (nI f)), (2, .int (nI 0))]) hc dX0_remove_25 rfl (by decide) rfl ?_
    have L2 : ∀ (r : Nat) (S1 : ES), r ≤ 3 → (chR (up2 S 0 0 (S 0 0 - 2 ^ f)) (f : Int) false r S1 ∧ eOK S1) → zG X (eW (zx_K X) q) 3 S1 [(0, .ref (q 0)), (1, .int (nI f)), (2, .int (nI r))] 26 [] := by
      refine z_loop 3 _ _ (fun r S1 hr3 hI ih => ?_)
      obtain ⟨i1, i2⟩ := hI
      refine z_iload_n hc dX0_remove_26 2 rfl rfl ?_
      refine z_iconst hc ((nI 3)) dX0_remove_27 (by decide) ?_
      refine z_icmp_ge hc 44 dX0_remove_28 (by decide) (toInt_nI (by omega)) (toInt_nI (by omega)) (fun h7 => ?_) (fun h7 => ?_)
      · have e : r = 3 := by omega
        subst e
        refine z_iconst hc ((nI 1)) dX0_remove_44 (by decide) ?_
        exact z_iret hc hr (narZ 1 (by decide)) dX0_remove_45 (⟨Or.inr ⟨f, kf, rfl, h2, rfl, chR_3 i1⟩, i2⟩)
      · refine z_aload_n hc dX0_remove_31 0 rfl rfl ?_
        refine z_iload_n hc dX0_remove_32 2 rfl rfl ?_
        refine z_iload_n hc dX0_remove_33 1 rfl rfl ?_
        refine z_iconst hc ((nI 0)) dX0_remove_34 (by decide) ?_
        refine z_callVv (ci := 0) (q0 := 0) (As := [.int (nI r), .int (nI f), .int (nI 0)]) (rest := []) hc (e_update _ _ q S1 r (nI f) false i2 (by omega) (Or.inr ⟨f, kf, rfl⟩)) gX0_update aX0_update (by decide) rfl rfl rfl rfl (Nat.le_of_ble_eq_true rfl) dX0_remove_35 (fun S2 h8 => ?_)
        rw [toInt_nI (by omega)] at h8
        refine z_iinc (a := r) (lv' := [(0, .ref (q 0)), (1, .int (nI f)), (2, .int (nI (r + 1)))]) hc dX0_remove_38 2 rfl (by decide) rfl ?_
        refine z_goto hc 26 dX0_remove_41 (by decide) ?_
        exact ih (by omega) S2 ⟨⟨S1, i1, h8⟩, h8.2.2⟩
    exact L2 0 _ (by decide) ⟨rfl, k1.up 0 _ (show S 0 0 - 2 ^ f < 128 from Nat.lt_of_le_of_lt (Nat.sub_le _ _) b0)⟩
  · refine z_iconst hc ((nI 0)) dX0_remove_8 (by decide) ?_
    exact z_iret hc hr (narZ 0 (by decide)) dX0_remove_9 (⟨Or.inl ⟨h2, rfl, rfl⟩, k1⟩)
theorem e_effect (l : Launch) (K : zK) (q : Nat → Nat) (S : ES) (x y z w : Int32) (k1 : eOK S) : zMi l yX0_effect cX0_effect 8 (some .int) (rmH 7) K (eW K q) S [.ref (q 0), .int x, .int y, .int z, .int w] (fun r S' => efR S x y z w r S' ∧ eOK S') := by
  refine z_entryI RX0 (by decide) rfl (Nat.le_of_ble_eq_true rfl) (lv := [(0, .ref (q 0)), (1, .int x), (2, .int y), (3, .int z), (4, .int w)]) rfl (fun X hK hl hc hr => ?_)
  subst hK; subst hl
  have b0 : S 0 0 < 128 := k1 0 0
  refine z_iload_n hc dX0_effect_0 1 rfl rfl ?_
  refine z_callSi (As := [.int x]) (rest := []) hc (s_isRule _ _ _ _ x) gX0_isRule aX0_isRule (by decide) rfl rfl (Nat.le_of_ble_eq_true rfl) dX0_effect_1 (fun rx Sx h1 => ?_)
  rw [h1.1, h1.2]
  refine z_ifeqB hc 26 dX0_effect_4 (by decide) (fun h2 => ?_) (fun h2 => ?_)
  · refine z_sipush hc ((-1000)) dX0_effect_26 (by decide) ?_
    exact z_iret hc hr rfl dX0_effect_29 (⟨Or.inl ⟨Or.inl h2, rfl, rfl⟩, k1⟩)
  · refine z_iload_n hc dX0_effect_7 2 rfl rfl ?_
    refine z_iload_n hc dX0_effect_8 3 rfl rfl ?_
    refine z_iload hc dX0_effect_9 4 rfl ?_
    refine z_callSi (As := [.int y, .int z, .int w]) (rest := []) hc (s_factOk _ _ _ _ y z w) gX0_factOk aX0_factOk (by decide) rfl rfl (Nat.le_of_ble_eq_true rfl) dX0_effect_11 (fun rx Sx h3 => ?_)
    rw [h3.1, h3.2]
    refine z_ifeqB hc 26 dX0_effect_14 (by decide) (fun h4 => ?_) (fun h4 => ?_)
    · refine z_sipush hc ((-1000)) dX0_effect_26 (by decide) ?_
      exact z_iret hc hr rfl dX0_effect_29 (⟨Or.inl ⟨Or.inr (Or.inl h4), rfl, rfl⟩, k1⟩)
    · refine z_aload_n hc dX0_effect_17 0 rfl rfl ?_
      refine z_eget hc 0 (by decide) q31 rfl dX0_effect_18 ?_
      refine z_bipush hc ((nI 127)) dX0_effect_21 (by decide) ?_
      refine z_icmp_ne hc 30 dX0_effect_23 (by decide) (toInt_nI (by omega)) (toInt_nI (by omega)) (fun h5 => ?_) (fun h5 => ?_)
      · refine z_aload_n hc dX0_effect_30 0 rfl rfl ?_
        refine z_iload_n hc dX0_effect_31 1 rfl rfl ?_
        refine z_callVi (ci := 0) (q0 := 0) (As := [.int x]) (rest := []) hc (e_matches _ _ q S x k1) gX0_matches aX0_matches (by decide) rfl rfl rfl rfl (Nat.le_of_ble_eq_true rfl) dX0_effect_32 (fun rx Sx h6 => ?_)
        rw [h6.1, h6.2]
        refine z_istore (lv' := [(0, .ref (q 0)), (1, .int x), (2, .int y), (3, .int z), (4, .int w), (5, .int (mtE S x))]) hc dX0_effect_35 (by decide) rfl ?_
        refine z_aload_n hc dX0_effect_37 0 rfl rfl ?_
        refine z_iload_n hc dX0_effect_38 2 rfl rfl ?_
        refine z_iload_n hc dX0_effect_39 3 rfl rfl ?_
        refine z_iload hc dX0_effect_40 4 rfl ?_
        refine z_callVi (ci := 0) (q0 := 0) (As := [.int y, .int z, .int w]) (rest := []) hc (e_add _ _ q S y z w k1) gX0_add aX0_add (by decide) rfl rfl rfl rfl (Nat.le_of_ble_eq_true rfl) dX0_effect_42 (fun f S1 h7 => ?_)
        refine z_istore (lv' := [(0, .ref (q 0)), (1, .int x), (2, .int y), (3, .int z), (4, .int w), (5, .int (mtE S x)), (6, .int f)]) hc dX0_effect_45 (by decide) rfl ?_
        refine z_aload_n hc dX0_effect_47 0 rfl rfl ?_
        refine z_iload_n hc dX0_effect_48 1 rfl rfl ?_
        refine z_callVi (ci := 0) (q0 := 0) (As := [.int x]) (rest := []) hc (e_matches _ _ q S1 x h7.2) gX0_matches aX0_matches (by decide) rfl rfl rfl rfl (Nat.le_of_ble_eq_true rfl) dX0_effect_49 (fun rx Sx h8 => ?_)
        rw [h8.1, h8.2]
        refine z_istore (lv' := [(0, .ref (q 0)), (1, .int x), (2, .int y), (3, .int z), (4, .int w), (5, .int (mtE S x)), (6, .int f), (7, .int (mtE S1 x))]) hc dX0_effect_52 (by decide) rfl ?_
        refine z_aload_n hc dX0_effect_54 0 rfl rfl ?_
        refine z_iload hc dX0_effect_55 6 rfl ?_
        refine z_callVi (ci := 0) (q0 := 0) (As := [.int f]) (rest := []) hc (e_remove _ _ q S1 f h7.2) gX0_remove aX0_remove (by decide) rfl rfl rfl rfl (Nat.le_of_ble_eq_true rfl) dX0_effect_57 (fun r2 S2 h9 => ?_)
        refine z_pop hc dX0_effect_60 rfl ?_
        refine z_iload hc dX0_effect_61 7 rfl ?_
        refine z_iload hc dX0_effect_63 5 rfl ?_
        refine z_isubR hc (mtE S1 x - mtE S x) dX0_effect_65 rfl ?_
        exact z_iret hc hr rfl dX0_effect_66 (⟨Or.inr ⟨h2, h4, by omega, S1, f, r2, h7.1, h7.2, h9.1, rfl⟩, h9.2⟩)
      · refine z_sipush hc ((-1000)) dX0_effect_26 (by decide) ?_
        exact z_iret hc hr rfl dX0_effect_29 (⟨Or.inl ⟨Or.inr (Or.inr (by omega)), rfl, rfl⟩, k1⟩)
end
section
/-! PLAIN: what the model's methods compute, as functions of its state T (arrays: 1 there, 2 kinds, 3 as, 4 bs, 5 size, 6 whats, 7 bound) -/
set_option maxRecDepth 100000
def mB (i : Nat) : Nat := match i with
  | 0 => 1
  | 1 => 2
  | 2 => 3
  | 3 => 4
  | 4 => 4
  | 5 => 4
  | 6 => 512
  | _ => 5
def mOK (T : ES) : Prop := ∀ i j, T i j < mB i
theorem mOK.up {S : ES} (h : mOK S) (i k : Nat) {v : Nat} (hv : v < mB i) : mOK (up2 S i k v) := by
  intro i' j
  unfold up2
  by_cases e : i' = i
  · rw [if_pos e]
    subst e
    unfold updN
    by_cases e2 : j = k
    · rw [if_pos e2]; exact hv
    · rw [if_neg e2]; exact h i' j
  · rw [if_neg e]; exact h i' j
def eqm (T T' : ES) : Prop := ∀ i, i ≠ 7 → T' i = T i
theorem eqm.rf {T : ES} : eqm T T := fun _ _ => rfl
theorem eqm.tr {S S1 S2 : ES} (h1 : eqm S S1) (h2 : eqm S1 S2) : eqm S S2 := fun i hi => (h2 i hi).trans (h1 i hi)
theorem eqm.up {S S1 : ES} (h : eqm S S1) {k v : Nat} : eqm S (up2 S1 7 k v) := fun j hj => (up2_n hj).trans (h j hj)
def mfP (e : E3) (d v : Nat) : Bool × E3 := if d ≤ 3 then (decide (v = d), e) else if d = 7 then (true, e) else if e3g e (d - 4) = 0 then (true, e3s e (d - 4) (v + 1)) else (decide (e3g e (d - 4) = v + 1), e)
def tkP (T : ES) (e : E3) (what f : Nat) : Bool × E3 := if T 1 f = 0 then (false, e) else if T 2 f = what % 4 then (if (mfP e (what / 4 % 8) (T 3 f)).1 = true then mfP (mfP e (what / 4 % 8) (T 3 f)).2 (what / 32 % 8) (T 4 f) else (false, (mfP e (what / 4 % 8) (T 3 f)).2)) else (false, e)
def nnP (T : ES) (e : E3) (what : Nat) : Nat → Bool
  | 0 => false
  | n + 1 => (tkP T e what n).1 || nnP T e what n
def emP (T : ES) (r n i : Nat) : Bool := decide (n ≤ i ∨ 256 ≤ T 6 (3 * r + i))
def stP (T : ES) (r n code : Nat) (e : E3) (i : Nat) : Bool × E3 := if (emP T r n i || decide (dig code i = 7)) = true then (emP T r n i && decide (dig code i = 7) && (decide (n ≤ i) || !(nnP T e (T 6 (3 * r + i)) 7)), e) else tkP T e (T 6 (3 * r + i)) (dig code i)
def imP (T : ES) (r n code : Nat) : Nat → Bool × E3
  | 0 => (true, (0, 0, 0))
  | i + 1 => if (imP T r n code i).1 = true then stP T r n code (imP T r n code i).2 i else imP T r n code i
def imB (T : ES) (r n code : Nat) : Bool := (imP T r n code 3).1
theorem imP_stay {T : ES} {r n code i j : Nat} (h : (imP T r n code i).1 = false) (hj : i ≤ j) : (imP T r n code j).1 = false := by
  induction j with
  | zero => rw [show i = 0 by omega] at h; exact h
  | succ j ih =>
    by_cases e : i = j + 1
    · rw [← e]; exact h
    · have h2 := ih (by omega)
      unfold imP
      rw [if_neg (by rw [h2]; decide)]
      exact h2
theorem tkP_c {T T' : ES} (h : eqm T T') (e : E3) (what f : Nat) : tkP T' e what f = tkP T e what f := by
  unfold tkP
  rw [h 1 (by decide), h 2 (by decide), h 3 (by decide), h 4 (by decide)]
theorem nnP_c {T T' : ES} (h : eqm T T') (e : E3) (what : Nat) : ∀ n, nnP T' e what n = nnP T e what n
  | 0 => rfl
  | n + 1 => by
    unfold nnP
    rw [nnP_c h e what n, tkP_c h]
theorem emP_c {T T' : ES} (h : eqm T T') (r n i : Nat) : emP T' r n i = emP T r n i := by
  unfold emP
  rw [h 6 (by decide)]
theorem stP_c {T T' : ES} (h : eqm T T') (r n code : Nat) (e : E3) (i : Nat) : stP T' r n code e i = stP T r n code e i := by
  unfold stP
  rw [emP_c h, h 6 (by decide), tkP_c h, nnP_c h]
theorem imP_c {T T' : ES} (h : eqm T T') (r n code : Nat) : ∀ i, imP T' r n code i = imP T r n code i
  | 0 => rfl
  | i + 1 => by
    unfold imP
    rw [imP_c h r n code i, stP_c h]
theorem imB_c {T T' : ES} (h : eqm T T') (r n code : Nat) : imB T' r n code = imB T r n code := by
  unfold imB
  rw [imP_c h]
def cntM (T : ES) (a n : Nat) : Nat := ctP (fun c => imB T a n c) 512
theorem cntM_le (T : ES) (a n : Nat) : cntM T a n ≤ 512 := ctP_le _ _
theorem cntM_c {T T' : ES} (h : eqm T T') (a n : Nat) : cntM T' a n = cntM T a n := by
  unfold cntM
  rw [show (fun c => imB T' a n c) = (fun c => imB T a n c) from funext fun c => imB_c h a n c]
def mtM (T : ES) (x : Int32) : Int32 := if isR x = true then nI (cntM T x.toInt.toNat (T 5 x.toInt.toNat)) else -1
theorem mtM_n (T : ES) {a : Nat} (h : a < 3) : mtM T (nI a) = nI (cntM T a (T 5 a)) := by
  unfold mtM
  rw [if_pos (isR_n h), tn_nI (by omega)]
theorem mtM_c {T T' : ES} (h : eqm T T') (x : Int32) : mtM T' x = mtM T x := by
  unfold mtM
  rw [cntM_c h, h 5 (by decide)]
def mchM (T : ES) (x k r : Int32) : Prop := (isR x = false ∧ r = -1) ∨ (∃ a : Nat, a < 3 ∧ x = nI a ∧ kthR (fun c => imB T a (T 5 a) c) 512 k 0 r)
def hs3 (code f : Nat) : Bool := decide (code % 8 = f ∨ code / 8 % 8 = f ∨ code / 64 = f)
def thI (T : ES) (x : Int32) : Bool := decide (0 ≤ x.toInt ∧ x.toInt ≤ 6) && decide (¬ T 1 x.toInt.toNat = 0)
def usM (T : ES) (x : Int32) : Int32 := if thI T x = true then nI (ctP (fun c => hs3 (c % 512) x.toInt.toNat && imB T (c / 512) (T 5 (c / 512)) (c % 512)) 1536) else -1
def mlP (T : ES) (what f : Nat) : Bool := decide (¬ T 1 f = 0) && decide (T 2 f = what % 4) && decide (3 < what / 4 % 8 ∨ what / 4 % 8 = T 3 f) && decide (3 < what / 32 % 8 ∨ what / 32 % 8 = T 4 f)
def ftM (T : ES) (x y : Int32) : Int32 := if isR x = true ∧ 0 ≤ y.toInt ∧ y.toInt < T 5 x.toInt.toNat then nI (ctP (fun f => mlP T (T 6 (3 * x.toInt.toNat + y.toInt.toNat)) f) 7) else -1
def paM (T : ES) (x y : Int32) : Int32 := if isR x = true ∧ 0 ≤ y.toInt ∧ y.toInt ≤ T 5 x.toInt.toNat then nI (cntM T x.toInt.toNat y.toInt.toNat) else -1
def fcM (T : ES) : Nat := rdP (fun f => decide (¬ T 1 f = 0)) 7
def mcR (T : ES) (x y r : Int32) (T' : ES) : Prop := (¬ (isR x = true ∧ 0 ≤ y.toInt ∧ y.toInt ≤ 511 ∧ y.toInt.toNat % 4 ≤ 2) ∧ r = -1 ∧ T' = T) ∨ (∃ a w : Nat, a < 3 ∧ w < 512 ∧ w % 4 ≤ 2 ∧ x = nI a ∧ y = nI w ∧ ((3 ≤ T 5 a ∧ r = -2 ∧ T' = T) ∨ (T 5 a < 3 ∧ r = nI (T 5 a + 1) ∧ T' = up2 (up2 T 6 (3 * a + T 5 a) w) 5 a (T 5 a + 1))))
def mdR (T : ES) (x r : Int32) (T' : ES) : Prop := (isR x = false ∧ r = -1 ∧ T' = T) ∨ (∃ a : Nat, a < 3 ∧ x = nI a ∧ ((T 5 a = 0 ∧ r = -1 ∧ T' = T) ∨ (0 < T 5 a ∧ r = nI (T 5 a - 1) ∧ T' = up2 T 5 a (T 5 a - 1))))
def maS (T : ES) (f k a b : Nat) : ES := up2 (up2 (up2 (up2 T 1 f 1) 2 f k) 3 f a) 4 f b
def maR (T : ES) (x y z r : Int32) (T' : ES) : Prop := (fOk x y z = false ∧ r = -1 ∧ T' = T) ∨ (∃ k a b : Nat, k < 3 ∧ a < 4 ∧ b < 4 ∧ x = nI k ∧ y = nI a ∧ z = nI b ∧ (((∀ g, g < 7 → ¬ T 1 g = 0) ∧ r = -2 ∧ T' = T) ∨ (∃ f : Nat, f < 7 ∧ (∀ g, g < f → ¬ T 1 g = 0) ∧ T 1 f = 0 ∧ r = nI f ∧ T' = maS T f k a b)))
def mrR (T : ES) (x r : Int32) (T' : ES) : Prop := (thI T x = false ∧ r = nI 0 ∧ T' = T) ∨ (∃ f : Nat, f < 7 ∧ x = nI f ∧ ¬ T 1 f = 0 ∧ r = nI 1 ∧ T' = up2 T 1 f 0)
def meR (T : ES) (x y z w r : Int32) (T' : ES) : Prop := ((isR x = false ∨ fOk y z w = false ∨ fcM T = 127) ∧ r = -1000 ∧ T' = T) ∨ (isR x = true ∧ fOk y z w = true ∧ ¬ fcM T = 127 ∧ ∃ (T0 T1 T2 : ES) (f r2 : Int32), eqm T T0 ∧ maR T0 y z w f T1 ∧ eqm T1 T2 ∧ mrR T2 f r2 T' ∧ r = mtM T1 x - mtM T x)
theorem thI_n {T : ES} {f : Nat} (h : f < 7) : thI T (nI f) = decide (¬ T 1 f = 0) := by
  unfold thI
  rw [tn_nI (by omega), toInt_nI (by omega), decide_eq_true (show (0 : Int) ≤ (f : Int) ∧ (f : Int) ≤ 6 by omega), Bool.true_and]
end
section
/-! the model's private methods: walks printed by w19.py -/
set_option maxRecDepth 100000
theorem m_rule (l : Launch) (K : zK) (q : Nat → Nat) (S : ES) (x : Int32) : zMi l yX1_rule cX1_rule 2 (some .boolean) (rmH 0) K (mW K q) S [.ref (q 0), .int x] (fun r S' => r = nI (isR x).toNat ∧ S' = S) := by
  refine z_entryI RX1 (by decide) rfl (Nat.le_of_ble_eq_true rfl) (lv := [(0, .ref (q 0)), (1, .int x)]) rfl (fun X hK hl hc hr => ?_)
  subst hK; subst hl
  refine z_iload_n hc dX1_rule_0 1 rfl rfl ?_
  refine z_if_lt hc 13 dX1_rule_1 (by decide) rfl (fun h1 => ?_) (fun h1 => ?_)
  · refine z_iconst hc ((nI 0)) dX1_rule_13 (by decide) ?_
    exact z_iret hc hr (narZ 0 (by decide)) dX1_rule_14 (⟨bz0 (by unfold isR; exact decide_eq_false (by omega)), rfl⟩)
  · refine z_iload_n hc dX1_rule_4 1 rfl rfl ?_
    refine z_iconst hc ((nI 2)) dX1_rule_5 (by decide) ?_
    refine z_icmp_gt hc 13 dX1_rule_6 (by decide) rfl (toInt_nI (by omega)) (fun h2 => ?_) (fun h2 => ?_)
    · refine z_iconst hc ((nI 0)) dX1_rule_13 (by decide) ?_
      exact z_iret hc hr (narZ 0 (by decide)) dX1_rule_14 (⟨bz0 (by unfold isR; exact decide_eq_false (by omega)), rfl⟩)
    · refine z_iconst hc ((nI 1)) dX1_rule_9 (by decide) ?_
      refine z_goto hc 14 dX1_rule_10 (by decide) ?_
      exact z_iret hc hr (narZ 1 (by decide)) dX1_rule_14 (⟨bz1 (by unfold isR; exact decide_eq_true (by omega)), rfl⟩)
theorem m_fact (l : Launch) (K : zK) (q : Nat → Nat) (S : ES) (x y z : Int32) : zMi l yX1_fact cX1_fact 4 (some .boolean) (rmH 0) K (mW K q) S [.ref (q 0), .int x, .int y, .int z] (fun r S' => r = nI (fOk x y z).toNat ∧ S' = S) := by
  refine z_entryI RX1 (by decide) rfl (Nat.le_of_ble_eq_true rfl) (lv := [(0, .ref (q 0)), (1, .int x), (2, .int y), (3, .int z)]) rfl (fun X hK hl hc hr => ?_)
  subst hK; subst hl
  refine z_iload_n hc dX1_fact_0 1 rfl rfl ?_
  refine z_if_lt hc 31 dX1_fact_1 (by decide) rfl (fun h0 => ?_) (fun h0 => ?_)
  · refine z_iconst hc ((nI 0)) dX1_fact_31 (by decide) ?_
    exact z_iret hc hr (narZ 0 (by decide)) dX1_fact_32 (⟨bz0 (by unfold fOk; exact decide_eq_false (by omega)), rfl⟩)
  · refine z_iload_n hc dX1_fact_4 1 rfl rfl ?_
    refine z_iconst hc ((nI 2)) dX1_fact_5 (by decide) ?_
    refine z_icmp_gt hc 31 dX1_fact_6 (by decide) rfl (toInt_nI (by omega)) (fun h1 => ?_) (fun h1 => ?_)
    · refine z_iconst hc ((nI 0)) dX1_fact_31 (by decide) ?_
      exact z_iret hc hr (narZ 0 (by decide)) dX1_fact_32 (⟨bz0 (by unfold fOk; exact decide_eq_false (by omega)), rfl⟩)
    · refine z_iload_n hc dX1_fact_9 2 rfl rfl ?_
      refine z_if_lt hc 31 dX1_fact_10 (by decide) rfl (fun h2 => ?_) (fun h2 => ?_)
      · refine z_iconst hc ((nI 0)) dX1_fact_31 (by decide) ?_
        exact z_iret hc hr (narZ 0 (by decide)) dX1_fact_32 (⟨bz0 (by unfold fOk; exact decide_eq_false (by omega)), rfl⟩)
      · refine z_iload_n hc dX1_fact_13 2 rfl rfl ?_
        refine z_iconst hc ((nI 3)) dX1_fact_14 (by decide) ?_
        refine z_icmp_gt hc 31 dX1_fact_15 (by decide) rfl (toInt_nI (by omega)) (fun h3 => ?_) (fun h3 => ?_)
        · refine z_iconst hc ((nI 0)) dX1_fact_31 (by decide) ?_
          exact z_iret hc hr (narZ 0 (by decide)) dX1_fact_32 (⟨bz0 (by unfold fOk; exact decide_eq_false (by omega)), rfl⟩)
        · refine z_iload_n hc dX1_fact_18 3 rfl rfl ?_
          refine z_if_lt hc 31 dX1_fact_19 (by decide) rfl (fun h4 => ?_) (fun h4 => ?_)
          · refine z_iconst hc ((nI 0)) dX1_fact_31 (by decide) ?_
            exact z_iret hc hr (narZ 0 (by decide)) dX1_fact_32 (⟨bz0 (by unfold fOk; exact decide_eq_false (by omega)), rfl⟩)
          · refine z_iload_n hc dX1_fact_22 3 rfl rfl ?_
            refine z_iconst hc ((nI 3)) dX1_fact_23 (by decide) ?_
            refine z_icmp_gt hc 31 dX1_fact_24 (by decide) rfl (toInt_nI (by omega)) (fun h5 => ?_) (fun h5 => ?_)
            · refine z_iconst hc ((nI 0)) dX1_fact_31 (by decide) ?_
              exact z_iret hc hr (narZ 0 (by decide)) dX1_fact_32 (⟨bz0 (by unfold fOk; exact decide_eq_false (by omega)), rfl⟩)
            · refine z_iconst hc ((nI 1)) dX1_fact_27 (by decide) ?_
              refine z_goto hc 32 dX1_fact_28 (by decide) ?_
              exact z_iret hc hr (narZ 1 (by decide)) dX1_fact_32 (⟨bz1 (by unfold fOk; exact decide_eq_true (by omega)), rfl⟩)
theorem m_fits (l : Launch) (K : zK) (q : Nat → Nat) (S : ES) (d v : Nat) (k1 : mOK S) (k2 : d < 8) (k3 : v < 4) : zMi l yX1_fits cX1_fits 4 (some .boolean) (rmH 0) K (mW K q) S [.ref (q 0), .int (nI d), .int (nI v)] (fun r S' => r = nI (mfP (eb (S 7)) d v).1.toNat ∧ eb (S' 7) = (mfP (eb (S 7)) d v).2 ∧ eqm S S' ∧ mOK S') := by
  refine z_entryI RX1 (by decide) rfl (Nat.le_of_ble_eq_true rfl) (lv := [(0, .ref (q 0)), (1, .int (nI d)), (2, .int (nI v))]) rfl (fun X hK hl hc hr => ?_)
  subst hK; subst hl
  refine z_iload_n hc dX1_fits_0 1 rfl rfl ?_
  refine z_iconst hc ((nI 3)) dX1_fits_1 (by decide) ?_
  refine z_icmp_gt hc 16 dX1_fits_2 (by decide) (toInt_nI (by omega)) (toInt_nI (by omega)) (fun h1 => ?_) (fun h1 => ?_)
  · refine z_iload_n hc dX1_fits_16 1 rfl rfl ?_
    refine z_bipush hc ((nI 7)) dX1_fits_17 (by decide) ?_
    refine z_icmp_ne hc 24 dX1_fits_19 (by decide) (toInt_nI (by omega)) (toInt_nI (by omega)) (fun h2 => ?_) (fun h2 => ?_)
    · have b7 : S 7 (d - 4) < 5 := k1 7 _
      refine z_iload_n hc dX1_fits_24 1 rfl rfl ?_
      refine z_iconst hc ((nI 4)) dX1_fits_25 (by decide) ?_
      refine z_isub (a := d) (b := 4) hc dX1_fits_26 (by omega) ?_
      refine z_istore_n (lv' := [(0, .ref (q 0)), (1, .int (nI d)), (2, .int (nI v)), (3, .int (nI (d - 4)))]) hc dX1_fits_27 rfl (by decide) rfl ?_
      refine z_aload_n hc dX1_fits_28 0 rfl rfl ?_
      refine z_mget hc 6 (by decide) q207 rfl dX1_fits_29 ?_
      refine z_iload_n hc dX1_fits_32 3 rfl rfl ?_
      refine z_iald (q0 := 7) (N := 3) (f := S 7) hc rfl (show d - 4 < 3 by omega) (by decide) dX1_fits_33 ?_
      refine z_if_ne hc 46 dX1_fits_34 (by decide) (toInt_nI (by omega)) (fun h3 => ?_) (fun h3 => ?_)
      · refine z_aload_n hc dX1_fits_46 0 rfl rfl ?_
        refine z_mget hc 6 (by decide) q207 rfl dX1_fits_47 ?_
        refine z_iload_n hc dX1_fits_50 3 rfl rfl ?_
        refine z_iald (q0 := 7) (N := 3) (f := S 7) hc rfl (show d - 4 < 3 by omega) (by decide) dX1_fits_51 ?_
        refine z_iload_n hc dX1_fits_52 2 rfl rfl ?_
        refine z_iconst hc ((nI 1)) dX1_fits_53 (by decide) ?_
        refine z_iadd (a := v) (b := 1) hc dX1_fits_54 ?_
        refine z_icmp_ne hc 62 dX1_fits_55 (by decide) (toInt_nI (by omega)) (toInt_nI (by omega)) (fun h4 => ?_) (fun h4 => ?_)
        · have m : mfP (eb (S 7)) d v = (false, eb (S 7)) := by unfold mfP; rw [if_neg (by omega), if_neg (by omega), e3g_eb _ (by omega), if_neg (by omega), decide_eq_false (by omega)]
          refine z_iconst hc ((nI 0)) dX1_fits_62 (by decide) ?_
          exact z_iret hc hr (narZ 0 (by decide)) dX1_fits_63 (⟨congrArg (fun z : Bool × E3 => nI z.1.toNat) m.symm, congrArg Prod.snd m.symm, eqm.rf, k1⟩)
        · have m : mfP (eb (S 7)) d v = (true, eb (S 7)) := by unfold mfP; rw [if_neg (by omega), if_neg (by omega), e3g_eb _ (by omega), if_neg (by omega), decide_eq_true (by omega)]
          refine z_iconst hc ((nI 1)) dX1_fits_58 (by decide) ?_
          refine z_goto hc 63 dX1_fits_59 (by decide) ?_
          exact z_iret hc hr (narZ 1 (by decide)) dX1_fits_63 (⟨congrArg (fun z : Bool × E3 => nI z.1.toNat) m.symm, congrArg Prod.snd m.symm, eqm.rf, k1⟩)
      · have m : mfP (eb (S 7)) d v = (true, e3s (eb (S 7)) (d - 4) (v + 1)) := by unfold mfP; rw [if_neg (by omega), if_neg (by omega), e3g_eb _ (by omega), if_pos (by omega)]
        refine z_aload_n hc dX1_fits_37 0 rfl rfl ?_
        refine z_mget hc 6 (by decide) q207 rfl dX1_fits_38 ?_
        refine z_iload_n hc dX1_fits_41 3 rfl rfl ?_
        refine z_iload_n hc dX1_fits_42 2 rfl rfl ?_
        refine z_iconst hc ((nI 1)) dX1_fits_43 (by decide) ?_
        refine z_iadd (a := v) (b := 1) hc dX1_fits_44 ?_
        refine z_iast (q0 := 7) (N := 3) (f := S 7) hc rfl (show d - 4 < 3 by omega) (by decide) (mW_set7 _ _ _ _ _) dX1_fits_45 ?_
        refine z_aload_n hc dX1_fits_46 0 rfl rfl ?_
        refine z_mget hc 6 (by decide) q207 rfl dX1_fits_47 ?_
        refine z_iload_n hc dX1_fits_50 3 rfl rfl ?_
        refine z_iald (q0 := 7) (N := 3) (f := (up2 S 7 (d - 4) (v + 1)) 7) hc rfl (show d - 4 < 3 by omega) (by decide) dX1_fits_51 ?_
        refine z_nat (b := v + 1) (by rw [up2_s, updN_s]) ?_
        refine z_iload_n hc dX1_fits_52 2 rfl rfl ?_
        refine z_iconst hc ((nI 1)) dX1_fits_53 (by decide) ?_
        refine z_iadd (a := v) (b := 1) hc dX1_fits_54 ?_
        refine z_icmp_ne hc 62 dX1_fits_55 (by decide) (toInt_nI (by omega)) (toInt_nI (by omega)) (fun h4 => ?_) (fun h4 => ?_)
        · exfalso
          omega
        · refine z_iconst hc ((nI 1)) dX1_fits_58 (by decide) ?_
          refine z_goto hc 63 dX1_fits_59 (by decide) ?_
          exact z_iret hc hr (narZ 1 (by decide)) dX1_fits_63 (⟨congrArg (fun z : Bool × E3 => nI z.1.toNat) m.symm, by rw [up2_s, eb_up _ _ (by omega), m], eqm.rf.up, k1.up 7 _ (show v + 1 < 5 by omega)⟩)
    · have m : mfP (eb (S 7)) d v = (true, eb (S 7)) := by unfold mfP; rw [if_neg (by omega), if_pos (by omega)]
      refine z_iconst hc ((nI 1)) dX1_fits_22 (by decide) ?_
      exact z_iret hc hr (narZ 1 (by decide)) dX1_fits_23 (⟨congrArg (fun z : Bool × E3 => nI z.1.toNat) m.symm, congrArg Prod.snd m.symm, eqm.rf, k1⟩)
  · refine z_iload_n hc dX1_fits_5 2 rfl rfl ?_
    refine z_iload_n hc dX1_fits_6 1 rfl rfl ?_
    refine z_icmp_ne hc 14 dX1_fits_7 (by decide) (toInt_nI (by omega)) (toInt_nI (by omega)) (fun h2 => ?_) (fun h2 => ?_)
    · have m : mfP (eb (S 7)) d v = (false, eb (S 7)) := by unfold mfP; rw [if_pos (by omega), decide_eq_false (by omega)]
      refine z_iconst hc ((nI 0)) dX1_fits_14 (by decide) ?_
      exact z_iret hc hr (narZ 0 (by decide)) dX1_fits_15 (⟨congrArg (fun z : Bool × E3 => nI z.1.toNat) m.symm, congrArg Prod.snd m.symm, eqm.rf, k1⟩)
    · have m : mfP (eb (S 7)) d v = (true, eb (S 7)) := by unfold mfP; rw [if_pos (by omega), decide_eq_true (by omega)]
      refine z_iconst hc ((nI 1)) dX1_fits_10 (by decide) ?_
      refine z_goto hc 15 dX1_fits_11 (by decide) ?_
      exact z_iret hc hr (narZ 1 (by decide)) dX1_fits_15 (⟨congrArg (fun z : Bool × E3 => nI z.1.toNat) m.symm, congrArg Prod.snd m.symm, eqm.rf, k1⟩)
theorem m_takes (l : Launch) (K : zK) (q : Nat → Nat) (S : ES) (what f : Nat) (k1 : mOK S) (k2 : what < 512) (k3 : f < 7) : zMi l yX1_takes cX1_takes 3 (some .boolean) (rmH 1) K (mW K q) S [.ref (q 0), .int (nI what), .int (nI f)] (fun r S' => r = nI (tkP S (eb (S 7)) what f).1.toNat ∧ eb (S' 7) = (tkP S (eb (S 7)) what f).2 ∧ eqm S S' ∧ mOK S') := by
  refine z_entryI RX1 (by decide) rfl (Nat.le_of_ble_eq_true rfl) (lv := [(0, .ref (q 0)), (1, .int (nI what)), (2, .int (nI f))]) rfl (fun X hK hl hc hr => ?_)
  subst hK; subst hl
  have b1 : S 1 f < 2 := k1 1 f
  have b2 : S 2 f < 3 := k1 2 f
  have b3 : S 3 f < 4 := k1 3 f
  have b4 : S 4 f < 4 := k1 4 f
  refine z_aload_n hc dX1_takes_0 0 rfl rfl ?_
  refine z_mget hc 0 (by decide) q201 rfl dX1_takes_1 ?_
  refine z_iload_n hc dX1_takes_4 2 rfl rfl ?_
  refine z_zald (q0 := 1) (N := 7) (f := S 1) hc rfl (show f < 7 by omega) (by decide) dX1_takes_5 ?_
  refine z_if_eq hc 63 dX1_takes_6 (by decide) (toInt_nI (by omega)) (fun h1 => ?_) (fun h1 => ?_)
  · have m : tkP S (eb (S 7)) what f = (false, eb (S 7)) := by unfold tkP; rw [if_pos (by omega)]
    refine z_iconst hc ((nI 0)) dX1_takes_63 (by decide) ?_
    exact z_iret hc hr (narZ 0 (by decide)) dX1_takes_64 (⟨congrArg (fun z : Bool × E3 => nI z.1.toNat) m.symm, congrArg Prod.snd m.symm, eqm.rf, k1⟩)
  · refine z_aload_n hc dX1_takes_9 0 rfl rfl ?_
    refine z_mget hc 1 (by decide) q202 rfl dX1_takes_10 ?_
    refine z_iload_n hc dX1_takes_13 2 rfl rfl ?_
    refine z_iald (q0 := 2) (N := 7) (f := S 2) hc rfl (show f < 7 by omega) (by decide) dX1_takes_14 ?_
    refine z_iload_n hc dX1_takes_15 1 rfl rfl ?_
    refine z_iconst hc ((nI 3)) dX1_takes_16 (by decide) ?_
    refine z_iandm hc 2 4 dX1_takes_17 (by decide) (by decide) ?_
    refine z_icmp_ne hc 63 dX1_takes_18 (by decide) (toInt_nI (by omega)) (toInt_nI (by omega)) (fun h2 => ?_) (fun h2 => ?_)
    · have m : tkP S (eb (S 7)) what f = (false, eb (S 7)) := by unfold tkP; rw [if_neg (by omega), if_neg (by omega)]
      refine z_iconst hc ((nI 0)) dX1_takes_63 (by decide) ?_
      exact z_iret hc hr (narZ 0 (by decide)) dX1_takes_64 (⟨congrArg (fun z : Bool × E3 => nI z.1.toNat) m.symm, congrArg Prod.snd m.symm, eqm.rf, k1⟩)
    · refine z_aload_n hc dX1_takes_21 0 rfl rfl ?_
      refine z_iload_n hc dX1_takes_22 1 rfl rfl ?_
      refine z_iconst hc ((nI 2)) dX1_takes_23 (by decide) ?_
      refine z_ishr hc dX1_takes_24 (4) (by decide) (by omega) (by omega) ?_
      refine z_bipush hc ((nI 7)) dX1_takes_25 (by decide) ?_
      refine z_iandm hc 3 8 dX1_takes_27 (by decide) (by decide) ?_
      refine z_aload_n hc dX1_takes_28 0 rfl rfl ?_
      refine z_mget hc 2 (by decide) q203 rfl dX1_takes_29 ?_
      refine z_iload_n hc dX1_takes_32 2 rfl rfl ?_
      refine z_iald (q0 := 3) (N := 7) (f := S 3) hc rfl (show f < 7 by omega) (by decide) dX1_takes_33 ?_
      refine z_callVi (ci := 1) (q0 := 0) (As := [.int (nI ((what / 4) % 8)), .int (nI (S 3 f))]) (rest := []) hc (m_fits _ _ q S (what / 4 % 8) (S 3 f) k1 (by omega) b3) gX1_fits aX1_fits (by decide) rfl rfl rfl rfl (Nat.le_of_ble_eq_true rfl) dX1_takes_34 (fun r1 S1 h3 => ?_)
      obtain ⟨g1, g2, g3, g4⟩ := h3
      rw [g1]
      refine z_ifeqB hc 63 dX1_takes_37 (by decide) (fun h4 => ?_) (fun h4 => ?_)
      · have m : tkP S (eb (S 7)) what f = (false, (mfP (eb (S 7)) (what / 4 % 8) (S 3 f)).2) := by unfold tkP; rw [if_neg (by omega), if_pos (by omega), if_neg (by rw [h4]; decide)]
        refine z_iconst hc ((nI 0)) dX1_takes_63 (by decide) ?_
        exact z_iret hc hr (narZ 0 (by decide)) dX1_takes_64 (⟨congrArg (fun z : Bool × E3 => nI z.1.toNat) m.symm, by rw [m]; exact g2, g3, g4⟩)
      · have e4 : S1 4 = S 4 := g3 4 (by decide)
        refine z_aload_n hc dX1_takes_40 0 rfl rfl ?_
        refine z_iload_n hc dX1_takes_41 1 rfl rfl ?_
        refine z_iconst hc ((nI 5)) dX1_takes_42 (by decide) ?_
        refine z_ishr hc dX1_takes_43 (32) (by decide) (by omega) (by omega) ?_
        refine z_bipush hc ((nI 7)) dX1_takes_44 (by decide) ?_
        refine z_iandm hc 3 8 dX1_takes_46 (by decide) (by decide) ?_
        refine z_aload_n hc dX1_takes_47 0 rfl rfl ?_
        refine z_mget hc 3 (by decide) q204 rfl dX1_takes_48 ?_
        refine z_iload_n hc dX1_takes_51 2 rfl rfl ?_
        refine z_iald (q0 := 4) (N := 7) (f := S1 4) hc rfl (show f < 7 by omega) (by decide) dX1_takes_52 ?_
        refine z_callVi (ci := 1) (q0 := 0) (As := [.int (nI ((what / 32) % 8)), .int (nI (S1 4 f))]) (rest := []) hc (m_fits _ _ q S1 (what / 32 % 8) (S1 4 f) g4 (by omega) (by rw [e4]; exact b4)) gX1_fits aX1_fits (by decide) rfl rfl rfl rfl (Nat.le_of_ble_eq_true rfl) dX1_takes_53 (fun r2 S2 h5 => ?_)
        obtain ⟨g5, g6, g7, g8⟩ := h5
        rw [g2, e4] at g5 g6
        rw [g5]
        have m : tkP S (eb (S 7)) what f = mfP (mfP (eb (S 7)) (what / 4 % 8) (S 3 f)).2 (what / 32 % 8) (S 4 f) := by unfold tkP; rw [if_neg (by omega), if_pos (by omega), if_pos h4]
        refine z_ifeqB hc 63 dX1_takes_56 (by decide) (fun h6 => ?_) (fun h6 => ?_)
        · refine z_iconst hc ((nI 0)) dX1_takes_63 (by decide) ?_
          exact z_iret hc hr (narZ 0 (by decide)) dX1_takes_64 (⟨bz0 (by rw [m]; exact h6), by rw [m]; exact g6, g3.tr g7, g8⟩)
        · refine z_iconst hc ((nI 1)) dX1_takes_59 (by decide) ?_
          refine z_goto hc 64 dX1_takes_60 (by decide) ?_
          exact z_iret hc hr (narZ 1 (by decide)) dX1_takes_64 (⟨bz1 (by rw [m]; exact h6), by rw [m]; exact g6, g3.tr g7, g8⟩)
theorem m_none (l : Launch) (K : zK) (q : Nat → Nat) (S : ES) (what : Nat) (k1 : mOK S) (k2 : what < 512) : zMi l yX1_none cX1_none 7 (some .boolean) (rmH 2) K (mW K q) S [.ref (q 0), .int (nI what)] (fun r S' => r = nI (!(nnP S (eb (S 7)) what 7)).toNat ∧ eb (S' 7) = eb (S 7) ∧ eqm S S' ∧ mOK S') := by
  refine z_entryI RX1 (by decide) rfl (Nat.le_of_ble_eq_true rfl) (lv := [(0, .ref (q 0)), (1, .int (nI what))]) rfl (fun X hK hl hc hr => ?_)
  subst hK; subst hl
  refine z_iconst hc ((nI 0)) dX1_none_0 (by decide) ?_
  refine z_istore_n (lv' := [(0, .ref (q 0)), (1, .int (nI what)), (2, .int (nI 0))]) hc dX1_none_1 rfl (by decide) rfl ?_
  refine z_iconst hc ((nI 0)) dX1_none_2 (by decide) ?_
  refine z_istore_n (lv' := [(0, .ref (q 0)), (1, .int (nI what)), (2, .int (nI 0)), (3, .int (nI 0))]) hc dX1_none_3 rfl (by decide) rfl ?_
  have L : ∀ (n : Nat) (S1 : ES), n ≤ 7 → (eb (S1 7) = eb (S 7) ∧ eqm S S1 ∧ mOK S1) → zG X (mW (zx_K X) q) 7 S1 [(0, .ref (q 0)), (1, .int (nI what)), (2, .int (nI (nnP S (eb (S 7)) what n).toNat)), (3, .int (nI n))] 4 [] := by
    refine z_loop 7 _ _ (fun n S1 hn hI ih => ?_)
    obtain ⟨i1, i2, i3⟩ := hI
    refine z_iload_n hc dX1_none_4 3 rfl rfl ?_
    refine z_bipush hc ((nI 7)) dX1_none_5 (by decide) ?_
    refine z_icmp_ge hc 83 dX1_none_7 (by decide) (toInt_nI (by omega)) (toInt_nI (by omega)) (fun h1 => ?_) (fun h1 => ?_)
    · have e : n = 7 := by omega
      subst e
      refine z_iload_n hc dX1_none_83 2 rfl rfl ?_
      refine z_ifneB hc 91 dX1_none_84 (by decide) (fun h2 => ?_) (fun h2 => ?_)
      · refine z_iconst hc ((nI 0)) dX1_none_91 (by decide) ?_
        exact z_iret hc hr (narZ 0 (by decide)) dX1_none_92 (⟨bz0 (by rw [h2]; rfl), i1, i2, i3⟩)
      · refine z_iconst hc ((nI 1)) dX1_none_87 (by decide) ?_
        refine z_goto hc 92 dX1_none_88 (by decide) ?_
        exact z_iret hc hr (narZ 1 (by decide)) dX1_none_92 (⟨bz1 (by rw [h2]; rfl), i1, i2, i3⟩)
    · refine z_aload_n hc dX1_none_10 0 rfl rfl ?_
      refine z_mget hc 6 (by decide) q207 rfl dX1_none_11 ?_
      refine z_iconst hc ((nI 0)) dX1_none_14 (by decide) ?_
      refine z_iald (q0 := 7) (N := 3) (f := S1 7) hc rfl (show 0 < 3 by omega) (by decide) dX1_none_15 ?_
      refine z_istore (lv' := [(0, .ref (q 0)), (1, .int (nI what)), (2, .int (nI (nnP S (eb (S 7)) what n).toNat)), (3, .int (nI n)), (4, .int (nI (S1 7 0)))]) hc dX1_none_16 (by decide) rfl ?_
      refine z_aload_n hc dX1_none_18 0 rfl rfl ?_
      refine z_mget hc 6 (by decide) q207 rfl dX1_none_19 ?_
      refine z_iconst hc ((nI 1)) dX1_none_22 (by decide) ?_
      refine z_iald (q0 := 7) (N := 3) (f := S1 7) hc rfl (show 1 < 3 by omega) (by decide) dX1_none_23 ?_
      refine z_istore (lv' := [(0, .ref (q 0)), (1, .int (nI what)), (2, .int (nI (nnP S (eb (S 7)) what n).toNat)), (3, .int (nI n)), (4, .int (nI (S1 7 0))), (5, .int (nI (S1 7 1)))]) hc dX1_none_24 (by decide) rfl ?_
      refine z_aload_n hc dX1_none_26 0 rfl rfl ?_
      refine z_mget hc 6 (by decide) q207 rfl dX1_none_27 ?_
      refine z_iconst hc ((nI 2)) dX1_none_30 (by decide) ?_
      refine z_iald (q0 := 7) (N := 3) (f := S1 7) hc rfl (show 2 < 3 by omega) (by decide) dX1_none_31 ?_
      refine z_istore (lv' := [(0, .ref (q 0)), (1, .int (nI what)), (2, .int (nI (nnP S (eb (S 7)) what n).toNat)), (3, .int (nI n)), (4, .int (nI (S1 7 0))), (5, .int (nI (S1 7 1))), (6, .int (nI (S1 7 2)))]) hc dX1_none_32 (by decide) rfl ?_
      refine z_aload_n hc dX1_none_34 0 rfl rfl ?_
      refine z_iload_n hc dX1_none_35 1 rfl rfl ?_
      refine z_iload_n hc dX1_none_36 3 rfl rfl ?_
      refine z_callVi (ci := 1) (q0 := 0) (As := [.int (nI what), .int (nI n)]) (rest := []) hc (m_takes _ _ q S1 what n i3 k2 (by omega)) gX1_takes aX1_takes (by decide) rfl rfl rfl rfl (Nat.le_of_ble_eq_true rfl) dX1_none_37 (fun r1 S2 h2 => ?_)
      obtain ⟨g1, g2, g3, g4⟩ := h2
      rw [i1, tkP_c i2] at g1
      rw [g1]
      have J52 : ∀ b : Bool, b = nnP S (eb (S 7)) what (n + 1) → zG X (mW (zx_K X) q) 7 S2 [(0, .ref (q 0)), (1, .int (nI what)), (2, .int (nI (nnP S (eb (S 7)) what n).toNat)), (3, .int (nI n)), (4, .int (nI (S1 7 0))), (5, .int (nI (S1 7 1))), (6, .int (nI (S1 7 2)))] 52 [.int (nI b.toNat)] := by
        intro b hb
        rw [hb]
        have u0 : S1 7 0 < 5 := i3 7 0
        have u1 : S1 7 1 < 5 := i3 7 1
        have u2 : S1 7 2 < 5 := i3 7 2
        refine z_istore_n (lv' := [(0, .ref (q 0)), (1, .int (nI what)), (2, .int (nI (nnP S (eb (S 7)) what (n + 1)).toNat)), (3, .int (nI n)), (4, .int (nI (S1 7 0))), (5, .int (nI (S1 7 1))), (6, .int (nI (S1 7 2)))]) hc dX1_none_52 rfl (by decide) rfl ?_
        refine z_aload_n hc dX1_none_53 0 rfl rfl ?_
        refine z_mget hc 6 (by decide) q207 rfl dX1_none_54 ?_
        refine z_iconst hc ((nI 0)) dX1_none_57 (by decide) ?_
        refine z_iload hc dX1_none_58 4 rfl ?_
        refine z_iast (q0 := 7) (N := 3) (f := S2 7) hc rfl (show 0 < 3 by omega) (by decide) (mW_set7 _ _ _ _ _) dX1_none_60 ?_
        refine z_aload_n hc dX1_none_61 0 rfl rfl ?_
        refine z_mget hc 6 (by decide) q207 rfl dX1_none_62 ?_
        refine z_iconst hc ((nI 1)) dX1_none_65 (by decide) ?_
        refine z_iload hc dX1_none_66 5 rfl ?_
        refine z_iast (q0 := 7) (N := 3) (f := (up2 S2 7 0 (S1 7 0)) 7) hc rfl (show 1 < 3 by omega) (by decide) (mW_set7 _ _ _ _ _) dX1_none_68 ?_
        refine z_aload_n hc dX1_none_69 0 rfl rfl ?_
        refine z_mget hc 6 (by decide) q207 rfl dX1_none_70 ?_
        refine z_iconst hc ((nI 2)) dX1_none_73 (by decide) ?_
        refine z_iload hc dX1_none_74 6 rfl ?_
        refine z_iast (q0 := 7) (N := 3) (f := (up2 (up2 S2 7 0 (S1 7 0)) 7 1 (S1 7 1)) 7) hc rfl (show 2 < 3 by omega) (by decide) (mW_set7 _ _ _ _ _) dX1_none_76 ?_
        refine z_iinc (a := n) (lv' := [(0, .ref (q 0)), (1, .int (nI what)), (2, .int (nI (nnP S (eb (S 7)) what (n + 1)).toNat)), (3, .int (nI (n + 1))), (4, .int (nI (S1 7 0))), (5, .int (nI (S1 7 1))), (6, .int (nI (S1 7 2)))]) hc dX1_none_77 3 rfl (by decide) rfl ?_
        refine z_goto hc 4 dX1_none_80 (by decide) ?_
        refine z_sub [0, 1, 2, 3] rfl ?_
        refine ih (by omega) _ ⟨?_, ((i2.tr g3).up.up).up, ((g4.up 7 _ u0).up 7 _ u1).up 7 _ u2⟩
        rw [← i1]
        rfl
      refine z_ifneB hc 47 dX1_none_40 (by decide) (fun h3 => ?_) (fun h3 => ?_)
      · refine z_iconst hc ((nI 1)) dX1_none_47 (by decide) ?_
        refine z_goto hc 52 dX1_none_48 (by decide) ?_
        exact J52 true (by unfold nnP; rw [h3]; rfl)
      · refine z_iload_n hc dX1_none_43 2 rfl rfl ?_
        refine z_ifeqB hc 51 dX1_none_44 (by decide) (fun h4 => ?_) (fun h4 => ?_)
        · refine z_iconst hc ((nI 0)) dX1_none_51 (by decide) ?_
          exact J52 false (by unfold nnP; rw [h3, h4]; rfl)
        · refine z_iconst hc ((nI 1)) dX1_none_47 (by decide) ?_
          refine z_goto hc 52 dX1_none_48 (by decide) ?_
          exact J52 true (by unfold nnP; rw [h3, h4]; rfl)
  exact L 0 S (by decide) ⟨rfl, eqm.rf, k1⟩
theorem m_isMatch (l : Launch) (K : zK) (q : Nat → Nat) (S : ES) (r n code : Nat) (k1 : mOK S) (k2 : r < 3) (k3 : n ≤ 3) (k4 : code < 2 ^ 31) : zMi l yX1_isMatch cX1_isMatch 9 (some .boolean) (rmH 3) K (mW K q) S [.ref (q 0), .int (nI r), .int (nI n), .int (nI code)] (fun rr S' => rr = nI (imB S r n code).toNat ∧ eqm S S' ∧ mOK S') := by
  refine z_entryI RX1 (by decide) rfl (Nat.le_of_ble_eq_true rfl) (lv := [(0, .ref (q 0)), (1, .int (nI r)), (2, .int (nI n)), (3, .int (nI code))]) rfl (fun X hK hl hc hr => ?_)
  subst hK; subst hl
  have L2 : ∀ (i : Nat) (S1 : ES), i ≤ 3 → (eb (S1 7) = (imP S r n code i).2 ∧ eqm S S1 ∧ mOK S1) → zG X (mW (zx_K X) q) 9 S1 [(0, .ref (q 0)), (1, .int (nI r)), (2, .int (nI n)), (3, .int (nI code)), (4, .int (nI ((imP S r n code i).1).toNat)), (5, .int (nI i))] 29 [] := by
    refine z_loop 3 _ _ (fun i S1 hi hI ih => ?_)
    obtain ⟨i1, i2, i3⟩ := hI
    refine z_iload hc dX1_isMatch_29 5 rfl ?_
    refine z_iconst hc ((nI 3)) dX1_isMatch_31 (by decide) ?_
    refine z_icmp_ge hc 150 dX1_isMatch_32 (by decide) (toInt_nI (by omega)) (toInt_nI (by omega)) (fun h1 => ?_) (fun h1 => ?_)
    · have e : i = 3 := by omega
      subst e
      refine z_iload hc dX1_isMatch_150 4 rfl ?_
      exact z_iret hc hr (narZ _ (by exact Bool.toNat_lt _)) dX1_isMatch_152 (⟨rfl, i2, i3⟩)
    · refine z_iload hc dX1_isMatch_35 4 rfl ?_
      refine z_ifeqB hc 150 dX1_isMatch_37 (by decide) (fun h2 => ?_) (fun h2 => ?_)
      · have hf : imB S r n code = false := imP_stay h2 hi
        refine z_iload hc dX1_isMatch_150 4 rfl ?_
        exact z_iret hc hr (narZ _ (by exact Bool.toNat_lt _)) dX1_isMatch_152 (⟨by rw [hf, h2], i2, i3⟩)
      · obtain ⟨e, he⟩ : ∃ e, e = (imP S r n code i).2 := ⟨_, rfl⟩
        rw [← he] at i1
        obtain ⟨wt, hwt⟩ : ∃ w, w = S 6 (3 * r + i) := ⟨_, rfl⟩
        have b6 : wt < 512 := by rw [hwt]; exact k1 6 _
        have e6 : S1 6 = S 6 := i2 6 (by decide)
        have dl := dig_lt code i
        refine z_iload_n hc dX1_isMatch_40 3 rfl rfl ?_
        refine z_iconst hc ((nI 3)) dX1_isMatch_41 (by decide) ?_
        refine z_iload hc dX1_isMatch_42 5 rfl ?_
        refine z_imul (a := 3) (b := i) hc dX1_isMatch_44 ?_
        refine z_ishr hc dX1_isMatch_45 (8 ^ i) (pow8 i) (by omega) (by omega) ?_
        refine z_bipush hc ((nI 7)) dX1_isMatch_46 (by decide) ?_
        refine z_iandm hc 3 8 dX1_isMatch_48 (by decide) (by decide) ?_
        refine z_nat (b := dig code i) (rfl) ?_
        refine z_istore (lv' := [(0, .ref (q 0)), (1, .int (nI r)), (2, .int (nI n)), (3, .int (nI code)), (4, .int (nI ((imP S r n code i).1).toNat)), (5, .int (nI i)), (6, .int (nI (dig code i)))]) hc dX1_isMatch_49 (by decide) rfl ?_
        refine z_aload_n hc dX1_isMatch_51 0 rfl rfl ?_
        refine z_mget hc 5 (by decide) q206 rfl dX1_isMatch_52 ?_
        refine z_iconst hc ((nI 3)) dX1_isMatch_55 (by decide) ?_
        refine z_iload_n hc dX1_isMatch_56 1 rfl rfl ?_
        refine z_imul (a := 3) (b := r) hc dX1_isMatch_57 ?_
        refine z_iload hc dX1_isMatch_58 5 rfl ?_
        refine z_iadd (a := 3 * r) (b := i) hc dX1_isMatch_60 ?_
        refine z_iald (q0 := 6) (N := 9) (f := S1 6) hc rfl (show (3 * r) + i < 9 by omega) (by decide) dX1_isMatch_61 ?_
        refine z_nat (b := wt) (by rw [hwt, e6]) ?_
        refine z_istore (lv' := [(0, .ref (q 0)), (1, .int (nI r)), (2, .int (nI n)), (3, .int (nI code)), (4, .int (nI ((imP S r n code i).1).toNat)), (5, .int (nI i)), (6, .int (nI (dig code i))), (7, .int (nI wt))]) hc dX1_isMatch_62 (by decide) rfl ?_
        refine z_iload hc dX1_isMatch_64 5 rfl ?_
        refine z_iload_n hc dX1_isMatch_66 2 rfl rfl ?_
        have J144 : ∀ (S2 : ES) (ok : Bool), ok = (stP S r n code e i).1 → eb (S2 7) = (stP S r n code e i).2 → eqm S S2 → mOK S2 → zG X (mW (zx_K X) q) 9 S2 [(0, .ref (q 0)), (1, .int (nI r)), (2, .int (nI n)), (3, .int (nI code)), (4, .int (nI ok.toNat)), (5, .int (nI i)), (6, .int (nI (dig code i))), (7, .int (nI wt))] 144 [] := by
          intro S2 ok hok hev hs hm
          refine z_iinc (a := i) (lv' := [(0, .ref (q 0)), (1, .int (nI r)), (2, .int (nI n)), (3, .int (nI code)), (4, .int (nI ok.toNat)), (5, .int (nI (i + 1))), (6, .int (nI (dig code i))), (7, .int (nI wt))]) hc dX1_isMatch_144 5 rfl (by decide) rfl ?_
          refine z_goto hc 29 dX1_isMatch_147 (by decide) ?_
          refine z_sub [0, 1, 2, 3, 4, 5] rfl ?_
          have st : imP S r n code (i + 1) = stP S r n code e i := by show (if (imP S r n code i).1 = true then _ else _) = _; rw [if_pos h2, he]
          rw [hok, ← st]
          exact ih (by omega) S2 ⟨by rw [st]; exact hev, hs, hm⟩
        have J83 : ∀ em : Bool, em = emP S r n i → zG X (mW (zx_K X) q) 9 S1 [(0, .ref (q 0)), (1, .int (nI r)), (2, .int (nI n)), (3, .int (nI code)), (4, .int (nI ((imP S r n code i).1).toNat)), (5, .int (nI i)), (6, .int (nI (dig code i))), (7, .int (nI wt))] 83 [.int (nI em.toNat)] := by
          intro em hem
          refine z_istore (lv' := [(0, .ref (q 0)), (1, .int (nI r)), (2, .int (nI n)), (3, .int (nI code)), (4, .int (nI ((imP S r n code i).1).toNat)), (5, .int (nI i)), (6, .int (nI (dig code i))), (7, .int (nI wt)), (8, .int (nI em.toNat))]) hc dX1_isMatch_83 (by decide) rfl ?_
          refine z_iload hc dX1_isMatch_85 8 rfl ?_
          refine z_ifneB hc 97 dX1_isMatch_87 (by decide) (fun h4 => ?_) (fun h4 => ?_)
          · refine z_iload hc dX1_isMatch_97 8 rfl ?_
            refine z_ifeqB hc 128 dX1_isMatch_99 (by decide) (fun h6 => ?_) (fun h6 => ?_)
            · exact absurd (h4.symm.trans h6) (by decide)
            · refine z_iload hc dX1_isMatch_102 6 rfl ?_
              refine z_bipush hc ((nI 7)) dX1_isMatch_104 (by decide) ?_
              refine z_icmp_ne hc 128 dX1_isMatch_106 (by decide) (toInt_nI (by omega)) (toInt_nI (by omega)) (fun h8 => ?_) (fun h8 => ?_)
              · have h8' : ¬ dig code i = 7 := by omega
                refine z_iconst hc ((nI 0)) dX1_isMatch_128 (by decide) ?_
                refine z_istore (lv' := [(0, .ref (q 0)), (1, .int (nI r)), (2, .int (nI n)), (3, .int (nI code)), (4, .int (nI 0)), (5, .int (nI i)), (6, .int (nI (dig code i))), (7, .int (nI wt)), (8, .int (nI em.toNat))]) hc dX1_isMatch_129 (by decide) rfl ?_
                refine z_goto hc 144 dX1_isMatch_131 (by decide) ?_
                refine z_sub [0, 1, 2, 3, 4, 5, 6, 7] rfl ?_
                exact J144 S1 false (by unfold stP; rw [← hem, h6, decide_eq_false h8']; rfl) (by rw [i1]; unfold stP; rw [← hem, h6]; rfl) i2 i3
              · have h8' : dig code i = 7 := by omega
                refine z_iload hc dX1_isMatch_109 5 rfl ?_
                refine z_iload_n hc dX1_isMatch_111 2 rfl rfl ?_
                refine z_icmp_ge hc 124 dX1_isMatch_112 (by decide) (toInt_nI (by omega)) (toInt_nI (by omega)) (fun h9 => ?_) (fun h9 => ?_)
                · refine z_iconst hc ((nI 1)) dX1_isMatch_124 (by decide) ?_
                  refine z_goto hc 129 dX1_isMatch_125 (by decide) ?_
                  refine z_istore (lv' := [(0, .ref (q 0)), (1, .int (nI r)), (2, .int (nI n)), (3, .int (nI code)), (4, .int (nI 1)), (5, .int (nI i)), (6, .int (nI (dig code i))), (7, .int (nI wt)), (8, .int (nI em.toNat))]) hc dX1_isMatch_129 (by decide) rfl ?_
                  refine z_goto hc 144 dX1_isMatch_131 (by decide) ?_
                  refine z_sub [0, 1, 2, 3, 4, 5, 6, 7] rfl ?_
                  exact J144 S1 true (by unfold stP; rw [← hem, h6, decide_eq_true h8', decide_eq_true (show n ≤ i by omega)]; rfl) (by rw [i1]; unfold stP; rw [← hem, h6]; rfl) i2 i3
                · refine z_aload_n hc dX1_isMatch_115 0 rfl rfl ?_
                  refine z_iload hc dX1_isMatch_116 7 rfl ?_
                  refine z_callVi (ci := 1) (q0 := 0) (As := [.int (nI wt)]) (rest := []) hc (m_none _ _ q S1 wt i3 b6) gX1_none aX1_none (by decide) rfl rfl rfl rfl (Nat.le_of_ble_eq_true rfl) dX1_isMatch_118 (fun r9 S2 h10 => ?_)
                  obtain ⟨g1, g2, g3, g4⟩ := h10
                  rw [i1, nnP_c i2] at g1
                  rw [i1] at g2
                  rw [g1]
                  refine z_ifeqB hc 128 dX1_isMatch_121 (by decide) (fun h11 => ?_) (fun h11 => ?_)
                  · refine z_iconst hc ((nI 0)) dX1_isMatch_128 (by decide) ?_
                    refine z_istore (lv' := [(0, .ref (q 0)), (1, .int (nI r)), (2, .int (nI n)), (3, .int (nI code)), (4, .int (nI 0)), (5, .int (nI i)), (6, .int (nI (dig code i))), (7, .int (nI wt)), (8, .int (nI em.toNat))]) hc dX1_isMatch_129 (by decide) rfl ?_
                    refine z_goto hc 144 dX1_isMatch_131 (by decide) ?_
                    refine z_sub [0, 1, 2, 3, 4, 5, 6, 7] rfl ?_
                    exact J144 S2 false (by unfold stP; rw [← hem, h6, decide_eq_true h8', decide_eq_false (show ¬ n ≤ i by omega), ← hwt]; exact h11.symm) (by rw [g2]; unfold stP; rw [← hem, h6]; rfl) (i2.tr g3) g4
                  · refine z_iconst hc ((nI 1)) dX1_isMatch_124 (by decide) ?_
                    refine z_goto hc 129 dX1_isMatch_125 (by decide) ?_
                    refine z_istore (lv' := [(0, .ref (q 0)), (1, .int (nI r)), (2, .int (nI n)), (3, .int (nI code)), (4, .int (nI 1)), (5, .int (nI i)), (6, .int (nI (dig code i))), (7, .int (nI wt)), (8, .int (nI em.toNat))]) hc dX1_isMatch_129 (by decide) rfl ?_
                    refine z_goto hc 144 dX1_isMatch_131 (by decide) ?_
                    refine z_sub [0, 1, 2, 3, 4, 5, 6, 7] rfl ?_
                    exact J144 S2 true (by unfold stP; rw [← hem, h6, decide_eq_true h8', decide_eq_false (show ¬ n ≤ i by omega), ← hwt]; exact h11.symm) (by rw [g2]; unfold stP; rw [← hem, h6]; rfl) (i2.tr g3) g4
          · refine z_iload hc dX1_isMatch_90 6 rfl ?_
            refine z_bipush hc ((nI 7)) dX1_isMatch_92 (by decide) ?_
            refine z_icmp_ne hc 134 dX1_isMatch_94 (by decide) (toInt_nI (by omega)) (toInt_nI (by omega)) (fun h5 => ?_) (fun h5 => ?_)
            · have h7' : ¬ dig code i = 7 := by omega
              refine z_aload_n hc dX1_isMatch_134 0 rfl rfl ?_
              refine z_iload hc dX1_isMatch_135 7 rfl ?_
              refine z_iload hc dX1_isMatch_137 6 rfl ?_
              refine z_callVi (ci := 1) (q0 := 0) (As := [.int (nI wt), .int (nI (dig code i))]) (rest := []) hc (m_takes _ _ q S1 wt (dig code i) i3 b6 (by omega)) gX1_takes aX1_takes (by decide) rfl rfl rfl rfl (Nat.le_of_ble_eq_true rfl) dX1_isMatch_139 (fun r9 S2 h10 => ?_)
              obtain ⟨g1, g2, g3, g4⟩ := h10
              rw [i1, tkP_c i2] at g1 g2
              rw [g1]
              have st : stP S r n code e i = tkP S e wt (dig code i) := by unfold stP; rw [if_neg (by rw [← hem, h4, decide_eq_false h7']; decide), ← hwt]
              refine z_istore (lv' := [(0, .ref (q 0)), (1, .int (nI r)), (2, .int (nI n)), (3, .int (nI code)), (4, .int (nI ((tkP S e wt (dig code i)).1).toNat)), (5, .int (nI i)), (6, .int (nI (dig code i))), (7, .int (nI wt)), (8, .int (nI em.toNat))]) hc dX1_isMatch_142 (by decide) rfl ?_
              refine z_sub [0, 1, 2, 3, 4, 5, 6, 7] rfl ?_
              exact J144 S2 _ (by rw [st]) (by rw [st]; exact g2) (i2.tr g3) g4
            · have h7' : dig code i = 7 := by omega
              refine z_iload hc dX1_isMatch_97 8 rfl ?_
              refine z_ifeqB hc 128 dX1_isMatch_99 (by decide) (fun h6 => ?_) (fun h6 => ?_)
              · refine z_iconst hc ((nI 0)) dX1_isMatch_128 (by decide) ?_
                refine z_istore (lv' := [(0, .ref (q 0)), (1, .int (nI r)), (2, .int (nI n)), (3, .int (nI code)), (4, .int (nI 0)), (5, .int (nI i)), (6, .int (nI (dig code i))), (7, .int (nI wt)), (8, .int (nI em.toNat))]) hc dX1_isMatch_129 (by decide) rfl ?_
                refine z_goto hc 144 dX1_isMatch_131 (by decide) ?_
                refine z_sub [0, 1, 2, 3, 4, 5, 6, 7] rfl ?_
                exact J144 S1 false (by unfold stP; rw [← hem, h6, decide_eq_true h7']; rfl) (by rw [i1]; unfold stP; rw [← hem, h6, decide_eq_true h7']; rfl) i2 i3
              · exact absurd (h4.symm.trans h6) (by decide)
        refine z_icmp_ge hc 78 dX1_isMatch_67 (by decide) (toInt_nI (by omega)) (toInt_nI (by omega)) (fun h3 => ?_) (fun h3 => ?_)
        · refine z_iconst hc ((nI 1)) dX1_isMatch_78 (by decide) ?_
          refine z_goto hc 83 dX1_isMatch_79 (by decide) ?_
          exact J83 true (by unfold emP; exact (decide_eq_true (by omega)).symm)
        · refine z_iload hc dX1_isMatch_70 7 rfl ?_
          refine z_sipush hc ((nI 256)) dX1_isMatch_72 (by decide) ?_
          refine z_icmp_lt hc 82 dX1_isMatch_75 (by decide) (toInt_nI (by omega)) (toInt_nI (by omega)) (fun h4 => ?_) (fun h4 => ?_)
          · refine z_iconst hc ((nI 0)) dX1_isMatch_82 (by decide) ?_
            exact J83 false (by unfold emP; rw [← hwt]; exact (decide_eq_false (by omega)).symm)
          · refine z_iconst hc ((nI 1)) dX1_isMatch_78 (by decide) ?_
            refine z_goto hc 83 dX1_isMatch_79 (by decide) ?_
            exact J83 true (by unfold emP; rw [← hwt]; exact (decide_eq_true (by omega)).symm)
  refine z_iconst hc ((nI 0)) dX1_isMatch_0 (by decide) ?_
  refine z_istore (lv' := [(0, .ref (q 0)), (1, .int (nI r)), (2, .int (nI n)), (3, .int (nI code)), (4, .int (nI 0))]) hc dX1_isMatch_1 (by decide) rfl ?_
  have L1 : ∀ (i : Nat) (S1 : ES), i ≤ 3 → ((∀ j, j < i → S1 7 j = 0) ∧ eqm S S1 ∧ mOK S1) → zG X (mW (zx_K X) q) 9 S1 [(0, .ref (q 0)), (1, .int (nI r)), (2, .int (nI n)), (3, .int (nI code)), (4, .int (nI i))] 3 [] := by
    refine z_loop 3 _ _ (fun i S1 hi hI ih => ?_)
    obtain ⟨i1, i2, i3⟩ := hI
    refine z_iload hc dX1_isMatch_3 4 rfl ?_
    refine z_iconst hc ((nI 3)) dX1_isMatch_5 (by decide) ?_
    refine z_icmp_ge hc 23 dX1_isMatch_6 (by decide) (toInt_nI (by omega)) (toInt_nI (by omega)) (fun h1 => ?_) (fun h1 => ?_)
    · refine z_iconst hc ((nI 1)) dX1_isMatch_23 (by decide) ?_
      refine z_istore (lv' := [(0, .ref (q 0)), (1, .int (nI r)), (2, .int (nI n)), (3, .int (nI code)), (4, .int (nI 1))]) hc dX1_isMatch_24 (by decide) rfl ?_
      refine z_iconst hc ((nI 0)) dX1_isMatch_26 (by decide) ?_
      refine z_istore (lv' := [(0, .ref (q 0)), (1, .int (nI r)), (2, .int (nI n)), (3, .int (nI code)), (4, .int (nI 1)), (5, .int (nI 0))]) hc dX1_isMatch_27 (by decide) rfl ?_
      refine L2 0 S1 (Nat.zero_le _) ⟨?_, i2, i3⟩
      show eb (S1 7) = (0, 0, 0)
      unfold eb
      rw [i1 0 (by omega), i1 1 (by omega), i1 2 (by omega)]
    · refine z_aload_n hc dX1_isMatch_9 0 rfl rfl ?_
      refine z_mget hc 6 (by decide) q207 rfl dX1_isMatch_10 ?_
      refine z_iload hc dX1_isMatch_13 4 rfl ?_
      refine z_iconst hc ((nI 0)) dX1_isMatch_15 (by decide) ?_
      refine z_iast (q0 := 7) (N := 3) (f := S1 7) hc rfl (show i < 3 by omega) (by decide) (mW_set7 _ _ _ _ _) dX1_isMatch_16 ?_
      refine z_iinc (a := i) (lv' := [(0, .ref (q 0)), (1, .int (nI r)), (2, .int (nI n)), (3, .int (nI code)), (4, .int (nI (i + 1)))]) hc dX1_isMatch_17 4 rfl (by decide) rfl ?_
      refine z_goto hc 3 dX1_isMatch_20 (by decide) ?_
      refine ih (by omega) _ ⟨fun j hj => ?_, i2.up, i3.up 7 _ (show 0 < 5 by decide)⟩
      rw [up2_s]
      by_cases e : j = i
      · rw [e, updN_s]
      · rw [updN_n e, i1 j (by omega)]
  exact L1 0 S (by decide) ⟨fun j hj => absurd hj (Nat.not_lt_zero j), eqm.rf, k1⟩
end
section
/-! the model's public methods: walks printed by w20.py -/
set_option maxRecDepth 100000
theorem m_count (l : Launch) (K : zK) (q : Nat → Nat) (S : ES) (a n : Nat) (k1 : mOK S) (k2 : a < 3) (k3 : n ≤ 3) : zMi l yX1_count cX1_count 5 (some .int) (rmH 4) K (mW K q) S [.ref (q 0), .int (nI a), .int (nI n)] (fun r S' => r = nI (cntM S a n) ∧ eqm S S' ∧ mOK S') := by
  refine z_entryI RX1 (by decide) rfl (Nat.le_of_ble_eq_true rfl) (lv := [(0, .ref (q 0)), (1, .int (nI a)), (2, .int (nI n))]) rfl (fun X hK hl hc hr => ?_)
  subst hK; subst hl
  obtain ⟨p, hp⟩ : ∃ p, p = fun c => imB S a n c := ⟨_, rfl⟩
  refine z_iconst hc ((nI 0)) dX1_count_0 (by decide) ?_
  refine z_istore_n (lv' := [(0, .ref (q 0)), (1, .int (nI a)), (2, .int (nI n)), (3, .int (nI 0))]) hc dX1_count_1 rfl (by decide) rfl ?_
  refine z_iconst hc ((nI 0)) dX1_count_2 (by decide) ?_
  refine z_istore (lv' := [(0, .ref (q 0)), (1, .int (nI a)), (2, .int (nI n)), (3, .int (nI 0)), (4, .int (nI 0))]) hc dX1_count_3 (by decide) rfl ?_
  have L : ∀ (c : Nat) (S1 : ES), c ≤ 512 → (eqm S S1 ∧ mOK S1) → zG X (mW (zx_K X) q) 5 S1 [(0, .ref (q 0)), (1, .int (nI a)), (2, .int (nI n)), (3, .int (nI (ctP p c))), (4, .int (nI c))] 5 [] := by
    refine z_loop 512 _ _ (fun c S1 hcc hI ih => ?_)
    obtain ⟨i1, i2⟩ := hI
    refine z_iload hc dX1_count_5 4 rfl ?_
    refine z_sipush hc ((nI 512)) dX1_count_7 (by decide) ?_
    refine z_icmp_ge hc 38 dX1_count_10 (by decide) (toInt_nI (by omega)) (toInt_nI (by omega)) (fun h1 => ?_) (fun h1 => ?_)
    · have e : c = 512 := by omega
      subst e
      refine z_iload_n hc dX1_count_38 3 rfl rfl ?_
      exact z_iret hc hr rfl dX1_count_39 (⟨by rw [hp]; rfl, i1, i2⟩)
    · refine z_aload_n hc dX1_count_13 0 rfl rfl ?_
      refine z_iload_n hc dX1_count_14 1 rfl rfl ?_
      refine z_iload_n hc dX1_count_15 2 rfl rfl ?_
      refine z_iload hc dX1_count_16 4 rfl ?_
      refine z_callVi (ci := 1) (q0 := 0) (As := [.int (nI a), .int (nI n), .int (nI c)]) (rest := []) hc (m_isMatch _ _ q S1 a n c i2 k2 k3 (by omega)) gX1_isMatch aX1_isMatch (by decide) rfl rfl rfl rfl (Nat.le_of_ble_eq_true rfl) dX1_count_18 (fun rx S2 h2 => ?_)
      obtain ⟨g1, g2, g3⟩ := h2
      rw [imB_c i1] at g1
      rw [g1]
      refine z_ifeqB hc 30 dX1_count_21 (by decide) (fun h3 => ?_) (fun h3 => ?_)
      · refine z_iload_n hc dX1_count_30 3 rfl rfl ?_
        refine z_nat (b := ctP p (c + 1)) (ctP_0 (n := c) (by rw [hp]; exact h3)) ?_
        refine z_istore_n (lv' := [(0, .ref (q 0)), (1, .int (nI a)), (2, .int (nI n)), (3, .int (nI (ctP p (c + 1)))), (4, .int (nI c))]) hc dX1_count_31 rfl (by decide) rfl ?_
        refine z_iinc (a := c) (lv' := [(0, .ref (q 0)), (1, .int (nI a)), (2, .int (nI n)), (3, .int (nI (ctP p (c + 1)))), (4, .int (nI (c + 1)))]) hc dX1_count_32 4 rfl (by decide) rfl ?_
        refine z_goto hc 5 dX1_count_35 (by decide) ?_
        exact ih (by omega) S2 ⟨i1.tr g2, g3⟩
      · refine z_iload_n hc dX1_count_24 3 rfl rfl ?_
        refine z_iconst hc ((nI 1)) dX1_count_25 (by decide) ?_
        refine z_iadd (a := ctP p c) (b := 1) hc dX1_count_26 ?_
        refine z_goto hc 31 dX1_count_27 (by decide) ?_
        refine z_nat (b := ctP p (c + 1)) (ctP_1 (by rw [hp]; exact h3)) ?_
        refine z_istore_n (lv' := [(0, .ref (q 0)), (1, .int (nI a)), (2, .int (nI n)), (3, .int (nI (ctP p (c + 1)))), (4, .int (nI c))]) hc dX1_count_31 rfl (by decide) rfl ?_
        refine z_iinc (a := c) (lv' := [(0, .ref (q 0)), (1, .int (nI a)), (2, .int (nI n)), (3, .int (nI (ctP p (c + 1)))), (4, .int (nI (c + 1)))]) hc dX1_count_32 4 rfl (by decide) rfl ?_
        refine z_goto hc 5 dX1_count_35 (by decide) ?_
        exact ih (by omega) S2 ⟨i1.tr g2, g3⟩
  exact L 0 S (by decide) ⟨eqm.rf, k1⟩
theorem m_condition (l : Launch) (K : zK) (q : Nat → Nat) (S : ES) (x y : Int32) (k1 : mOK S) : zMi l yX1_condition cX1_condition 3 (some .int) (rmH 1) K (mW K q) S [.ref (q 0), .int x, .int y] (fun r S' => mcR S x y r S' ∧ mOK S') := by
  refine z_entryI RX1 (by decide) rfl (Nat.le_of_ble_eq_true rfl) (lv := [(0, .ref (q 0)), (1, .int x), (2, .int y)]) rfl (fun X hK hl hc hr => ?_)
  subst hK; subst hl
  refine z_aload_n hc dX1_condition_0 0 rfl rfl ?_
  refine z_iload_n hc dX1_condition_1 1 rfl rfl ?_
  refine z_callVi (ci := 1) (q0 := 0) (As := [.int x]) (rest := []) hc (m_rule _ _ q S x) gX1_rule aX1_rule (by decide) rfl rfl rfl rfl (Nat.le_of_ble_eq_true rfl) dX1_condition_2 (fun rx Sx h1 => ?_)
  rw [h1.1, h1.2]
  refine z_ifeqB hc 26 dX1_condition_5 (by decide) (fun h2 => ?_) (fun h2 => ?_)
  · refine z_iconst hc ((-1)) dX1_condition_26 (by decide) ?_
    exact z_iret hc hr rfl dX1_condition_27 (⟨Or.inl ⟨fun h => absurd (h2.symm.trans h.1) (by decide), rfl, rfl⟩, k1⟩)
  · have h2' := h2
    obtain ⟨a, ka, rfl⟩ : ∃ a : Nat, a < 3 ∧ x = nI a := by unfold isR at h2; have h2 := of_decide_eq_true h2; exact nI_ex h2.1 h2.2
    have b5 : S 5 a < 4 := k1 5 a
    refine z_iload_n hc dX1_condition_8 2 rfl rfl ?_
    refine z_if_lt hc 26 dX1_condition_9 (by decide) rfl (fun h3 => ?_) (fun h3 => ?_)
    · refine z_iconst hc ((-1)) dX1_condition_26 (by decide) ?_
      exact z_iret hc hr rfl dX1_condition_27 (⟨Or.inl ⟨fun h => by omega, rfl, rfl⟩, k1⟩)
    · refine z_iload_n hc dX1_condition_12 2 rfl rfl ?_
      refine z_sipush hc ((nI 511)) dX1_condition_13 (by decide) ?_
      refine z_icmp_gt hc 26 dX1_condition_16 (by decide) rfl (toInt_nI (by omega)) (fun h4 => ?_) (fun h4 => ?_)
      · refine z_iconst hc ((-1)) dX1_condition_26 (by decide) ?_
        exact z_iret hc hr rfl dX1_condition_27 (⟨Or.inl ⟨fun h => by omega, rfl, rfl⟩, k1⟩)
      · obtain ⟨w, kw, rfl⟩ := nI_ex (x := y) (n := 512) (by omega) (by omega)
        refine z_iload_n hc dX1_condition_19 2 rfl rfl ?_
        refine z_iconst hc ((nI 3)) dX1_condition_20 (by decide) ?_
        refine z_iandm hc 2 4 dX1_condition_21 (by decide) (by decide) ?_
        refine z_iconst hc ((nI 3)) dX1_condition_22 (by decide) ?_
        refine z_icmp_ne hc 28 dX1_condition_23 (by decide) (toInt_nI (by omega)) (toInt_nI (by omega)) (fun h5 => ?_) (fun h5 => ?_)
        · refine z_aload_n hc dX1_condition_28 0 rfl rfl ?_
          refine z_mget hc 4 (by decide) q205 rfl dX1_condition_29 ?_
          refine z_iload_n hc dX1_condition_32 1 rfl rfl ?_
          refine z_iald (q0 := 5) (N := 3) (f := S 5) hc rfl (show a < 3 by omega) (by decide) dX1_condition_33 ?_
          refine z_iconst hc ((nI 3)) dX1_condition_34 (by decide) ?_
          refine z_icmp_lt hc 41 dX1_condition_35 (by decide) (toInt_nI (by omega)) (toInt_nI (by omega)) (fun h6 => ?_) (fun h6 => ?_)
          · refine z_aload_n hc dX1_condition_41 0 rfl rfl ?_
            refine z_mget hc 5 (by decide) q206 rfl dX1_condition_42 ?_
            refine z_iconst hc ((nI 3)) dX1_condition_45 (by decide) ?_
            refine z_iload_n hc dX1_condition_46 1 rfl rfl ?_
            refine z_imul (a := 3) (b := a) hc dX1_condition_47 ?_
            refine z_aload_n hc dX1_condition_48 0 rfl rfl ?_
            refine z_mget hc 4 (by decide) q205 rfl dX1_condition_49 ?_
            refine z_iload_n hc dX1_condition_52 1 rfl rfl ?_
            refine z_iald (q0 := 5) (N := 3) (f := S 5) hc rfl (show a < 3 by omega) (by decide) dX1_condition_53 ?_
            refine z_iadd (a := 3 * a) (b := S 5 a) hc dX1_condition_54 ?_
            refine z_iload_n hc dX1_condition_55 2 rfl rfl ?_
            refine z_iast (q0 := 6) (N := 9) (f := S 6) hc rfl (show (3 * a) + (S 5 a) < 9 by omega) (by decide) (mW_set6 _ _ _ _ _) dX1_condition_56 ?_
            refine z_aload_n hc dX1_condition_57 0 rfl rfl ?_
            refine z_mget hc 4 (by decide) q205 rfl dX1_condition_58 ?_
            refine z_iload_n hc dX1_condition_61 1 rfl rfl ?_
            refine z_dup2 hc dX1_condition_62 rfl rfl ?_
            refine z_iald (q0 := 5) (N := 3) (f := (up2 S 6 ((3 * a) + (S 5 a)) w) 5) hc rfl (show a < 3 by omega) (by decide) dX1_condition_63 ?_
            refine z_nat (b := S 5 a) (rfl) ?_
            refine z_iconst hc ((nI 1)) dX1_condition_64 (by decide) ?_
            refine z_iadd (a := S 5 a) (b := 1) hc dX1_condition_65 ?_
            refine z_iast (q0 := 5) (N := 3) (f := (up2 S 6 ((3 * a) + (S 5 a)) w) 5) hc rfl (show a < 3 by omega) (by decide) (mW_set5 _ _ _ _ _) dX1_condition_66 ?_
            refine z_aload_n hc dX1_condition_67 0 rfl rfl ?_
            refine z_mget hc 4 (by decide) q205 rfl dX1_condition_68 ?_
            refine z_iload_n hc dX1_condition_71 1 rfl rfl ?_
            refine z_iald (q0 := 5) (N := 3) (f := (up2 (up2 S 6 ((3 * a) + (S 5 a)) w) 5 a ((S 5 a) + 1)) 5) hc rfl (show a < 3 by omega) (by decide) dX1_condition_72 ?_
            refine z_nat (b := S 5 a + 1) (by rw [up2_s, updN_s]) ?_
            exact z_iret hc hr rfl dX1_condition_73 (⟨Or.inr ⟨a, w, ka, kw, by omega, rfl, rfl, Or.inr ⟨by omega, rfl, rfl⟩⟩, (k1.up 6 _ (show w < 512 from kw)).up 5 _ (show S 5 a + 1 < 4 by omega)⟩)
          · refine z_bipush hc ((-2)) dX1_condition_38 (by decide) ?_
            exact z_iret hc hr rfl dX1_condition_40 (⟨Or.inr ⟨a, w, ka, kw, by omega, rfl, rfl, Or.inl ⟨by omega, rfl, rfl⟩⟩, k1⟩)
        · refine z_iconst hc ((-1)) dX1_condition_26 (by decide) ?_
          exact z_iret hc hr rfl dX1_condition_27 (⟨Or.inl ⟨fun h => by rw [tn_nI (by omega)] at h; omega, rfl, rfl⟩, k1⟩)
theorem m_drop (l : Launch) (K : zK) (q : Nat → Nat) (S : ES) (x : Int32) (k1 : mOK S) : zMi l yX1_drop cX1_drop 2 (some .int) (rmH 1) K (mW K q) S [.ref (q 0), .int x] (fun r S' => mdR S x r S' ∧ mOK S') := by
  refine z_entryI RX1 (by decide) rfl (Nat.le_of_ble_eq_true rfl) (lv := [(0, .ref (q 0)), (1, .int x)]) rfl (fun X hK hl hc hr => ?_)
  subst hK; subst hl
  refine z_aload_n hc dX1_drop_0 0 rfl rfl ?_
  refine z_iload_n hc dX1_drop_1 1 rfl rfl ?_
  refine z_callVi (ci := 1) (q0 := 0) (As := [.int x]) (rest := []) hc (m_rule _ _ q S x) gX1_rule aX1_rule (by decide) rfl rfl rfl rfl (Nat.le_of_ble_eq_true rfl) dX1_drop_2 (fun rx Sx h1 => ?_)
  rw [h1.1, h1.2]
  refine z_ifeqB hc 17 dX1_drop_5 (by decide) (fun h2 => ?_) (fun h2 => ?_)
  · refine z_iconst hc ((-1)) dX1_drop_17 (by decide) ?_
    exact z_iret hc hr rfl dX1_drop_18 (⟨Or.inl ⟨h2, rfl, rfl⟩, k1⟩)
  · obtain ⟨a, ka, rfl⟩ : ∃ a : Nat, a < 3 ∧ x = nI a := by unfold isR at h2; have h2 := of_decide_eq_true h2; exact nI_ex h2.1 h2.2
    have b5 : S 5 a < 4 := k1 5 a
    refine z_aload_n hc dX1_drop_8 0 rfl rfl ?_
    refine z_mget hc 4 (by decide) q205 rfl dX1_drop_9 ?_
    refine z_iload_n hc dX1_drop_12 1 rfl rfl ?_
    refine z_iald (q0 := 5) (N := 3) (f := S 5) hc rfl (show a < 3 by omega) (by decide) dX1_drop_13 ?_
    refine z_if_ne hc 19 dX1_drop_14 (by decide) (toInt_nI (by omega)) (fun h3 => ?_) (fun h3 => ?_)
    · have h4 : 0 < S 5 a := by omega
      refine z_aload_n hc dX1_drop_19 0 rfl rfl ?_
      refine z_mget hc 4 (by decide) q205 rfl dX1_drop_20 ?_
      refine z_iload_n hc dX1_drop_23 1 rfl rfl ?_
      refine z_dup2 hc dX1_drop_24 rfl rfl ?_
      refine z_iald (q0 := 5) (N := 3) (f := S 5) hc rfl (show a < 3 by omega) (by decide) dX1_drop_25 ?_
      refine z_iconst hc ((nI 1)) dX1_drop_26 (by decide) ?_
      refine z_isub (a := S 5 a) (b := 1) hc dX1_drop_27 (by omega) ?_
      refine z_iast (q0 := 5) (N := 3) (f := S 5) hc rfl (show a < 3 by omega) (by decide) (mW_set5 _ _ _ _ _) dX1_drop_28 ?_
      refine z_aload_n hc dX1_drop_29 0 rfl rfl ?_
      refine z_mget hc 4 (by decide) q205 rfl dX1_drop_30 ?_
      refine z_iload_n hc dX1_drop_33 1 rfl rfl ?_
      refine z_iald (q0 := 5) (N := 3) (f := (up2 S 5 a ((S 5 a) - 1)) 5) hc rfl (show a < 3 by omega) (by decide) dX1_drop_34 ?_
      refine z_nat (b := S 5 a - 1) (by rw [up2_s, updN_s]) ?_
      exact z_iret hc hr rfl dX1_drop_35 (⟨Or.inr ⟨a, ka, rfl, Or.inr ⟨h4, rfl, rfl⟩⟩, k1.up 5 _ (show S 5 a - 1 < 4 by omega)⟩)
    · refine z_iconst hc ((-1)) dX1_drop_17 (by decide) ?_
      exact z_iret hc hr rfl dX1_drop_18 (⟨Or.inr ⟨a, ka, rfl, Or.inl ⟨by omega, rfl, rfl⟩⟩, k1⟩)
theorem m_add (l : Launch) (K : zK) (q : Nat → Nat) (S : ES) (x y z : Int32) (k1 : mOK S) : zMi l yX1_add cX1_add 5 (some .int) (rmH 1) K (mW K q) S [.ref (q 0), .int x, .int y, .int z] (fun r S' => maR S x y z r S' ∧ mOK S') := by
  refine z_entryI RX1 (by decide) rfl (Nat.le_of_ble_eq_true rfl) (lv := [(0, .ref (q 0)), (1, .int x), (2, .int y), (3, .int z)]) rfl (fun X hK hl hc hr => ?_)
  subst hK; subst hl
  refine z_aload_n hc dX1_add_0 0 rfl rfl ?_
  refine z_iload_n hc dX1_add_1 1 rfl rfl ?_
  refine z_iload_n hc dX1_add_2 2 rfl rfl ?_
  refine z_iload_n hc dX1_add_3 3 rfl rfl ?_
  refine z_callVi (ci := 1) (q0 := 0) (As := [.int x, .int y, .int z]) (rest := []) hc (m_fact _ _ q S x y z) gX1_fact aX1_fact (by decide) rfl rfl rfl rfl (Nat.le_of_ble_eq_true rfl) dX1_add_4 (fun rx Sx h1 => ?_)
  rw [h1.1, h1.2]
  refine z_ifneB hc 12 dX1_add_7 (by decide) (fun h2 => ?_) (fun h2 => ?_)
  · have h2' := of_decide_eq_true h2
    obtain ⟨k, kk, rfl⟩ := nI_ex (x := x) (n := 3) (by omega) (by omega)
    obtain ⟨a, ka, rfl⟩ := nI_ex (x := y) (n := 4) (by omega) (by omega)
    obtain ⟨b, kb, rfl⟩ := nI_ex (x := z) (n := 4) (by omega) (by omega)
    refine z_iconst hc ((nI 0)) dX1_add_12 (by decide) ?_
    refine z_istore (lv' := [(0, .ref (q 0)), (1, .int (nI k)), (2, .int (nI a)), (3, .int (nI b)), (4, .int (nI 0))]) hc dX1_add_13 (by decide) rfl ?_
    have L1 : ∀ (f : Nat) (t : Unit), f ≤ 7 → (∀ g, g < f → ¬ S 1 g = 0) → zG X (mW (zx_K X) q) 5 S [(0, .ref (q 0)), (1, .int (nI k)), (2, .int (nI a)), (3, .int (nI b)), (4, .int (nI f))] 15 [] := by
      refine z_loop 7 (fun f _ => ∀ g, g < f → ¬ S 1 g = 0) _ (fun f t hf hI ih => ?_)
      have b1 : S 1 f < 2 := k1 1 f
      refine z_iload hc dX1_add_15 4 rfl ?_
      refine z_bipush hc ((nI 7)) dX1_add_17 (by decide) ?_
      refine z_icmp_ge hc 73 dX1_add_19 (by decide) (toInt_nI (by omega)) (toInt_nI (by omega)) (fun h3 => ?_) (fun h3 => ?_)
      · have e : f = 7 := by omega
        subst e
        refine z_bipush hc ((-2)) dX1_add_73 (by decide) ?_
        exact z_iret hc hr rfl dX1_add_75 (⟨Or.inr ⟨k, a, b, kk, ka, kb, rfl, rfl, rfl, Or.inl ⟨hI, rfl, rfl⟩⟩, k1⟩)
      · have kf : f < 7 := by omega
        refine z_aload_n hc dX1_add_22 0 rfl rfl ?_
        refine z_mget hc 0 (by decide) q201 rfl dX1_add_23 ?_
        refine z_iload hc dX1_add_26 4 rfl ?_
        refine z_zald (q0 := 1) (N := 7) (f := S 1) hc rfl (show f < 7 by omega) (by decide) dX1_add_28 ?_
        refine z_if_ne hc 67 dX1_add_29 (by decide) (toInt_nI (by omega)) (fun h5 => ?_) (fun h5 => ?_)
        · refine z_iinc (a := f) (lv' := [(0, .ref (q 0)), (1, .int (nI k)), (2, .int (nI a)), (3, .int (nI b)), (4, .int (nI (f + 1)))]) hc dX1_add_67 4 rfl (by decide) rfl ?_
          refine z_goto hc 15 dX1_add_70 (by decide) ?_
          refine ih kf () (fun g hg => ?_)
          by_cases e : g = f
          · rw [e]; omega
          · exact hI g (by omega)
        · refine z_aload_n hc dX1_add_32 0 rfl rfl ?_
          refine z_mget hc 0 (by decide) q201 rfl dX1_add_33 ?_
          refine z_iload hc dX1_add_36 4 rfl ?_
          refine z_iconst hc ((nI 1)) dX1_add_38 (by decide) ?_
          refine z_zast (q0 := 1) (N := 7) (f := S 1) hc rfl (show f < 7 by omega) (by decide) (show 1 < 2 by omega) (mW_set1 _ _ _ _ _) dX1_add_39 ?_
          refine z_aload_n hc dX1_add_40 0 rfl rfl ?_
          refine z_mget hc 1 (by decide) q202 rfl dX1_add_41 ?_
          refine z_iload hc dX1_add_44 4 rfl ?_
          refine z_iload_n hc dX1_add_46 1 rfl rfl ?_
          refine z_iast (q0 := 2) (N := 7) (f := (up2 S 1 f 1) 2) hc rfl (show f < 7 by omega) (by decide) (mW_set2 _ _ _ _ _) dX1_add_47 ?_
          refine z_aload_n hc dX1_add_48 0 rfl rfl ?_
          refine z_mget hc 2 (by decide) q203 rfl dX1_add_49 ?_
          refine z_iload hc dX1_add_52 4 rfl ?_
          refine z_iload_n hc dX1_add_54 2 rfl rfl ?_
          refine z_iast (q0 := 3) (N := 7) (f := (up2 (up2 S 1 f 1) 2 f k) 3) hc rfl (show f < 7 by omega) (by decide) (mW_set3 _ _ _ _ _) dX1_add_55 ?_
          refine z_aload_n hc dX1_add_56 0 rfl rfl ?_
          refine z_mget hc 3 (by decide) q204 rfl dX1_add_57 ?_
          refine z_iload hc dX1_add_60 4 rfl ?_
          refine z_iload_n hc dX1_add_62 3 rfl rfl ?_
          refine z_iast (q0 := 4) (N := 7) (f := (up2 (up2 (up2 S 1 f 1) 2 f k) 3 f a) 4) hc rfl (show f < 7 by omega) (by decide) (mW_set4 _ _ _ _ _) dX1_add_63 ?_
          refine z_iload hc dX1_add_64 4 rfl ?_
          exact z_iret hc hr rfl dX1_add_66 (⟨Or.inr ⟨k, a, b, kk, ka, kb, rfl, rfl, rfl, Or.inr ⟨f, kf, hI, by omega, rfl, rfl⟩⟩, (((k1.up 1 _ (show 1 < 2 by decide)).up 2 _ (show k < 3 from kk)).up 3 _ (show a < 4 from ka)).up 4 _ (show b < 4 from kb)⟩)
    exact L1 0 () (by decide) (fun g hg => absurd hg (Nat.not_lt_zero g))
  · refine z_iconst hc ((-1)) dX1_add_10 (by decide) ?_
    exact z_iret hc hr rfl dX1_add_11 (⟨Or.inl ⟨h2, rfl, rfl⟩, k1⟩)
theorem m_remove (l : Launch) (K : zK) (q : Nat → Nat) (S : ES) (x : Int32) (k1 : mOK S) : zMi l yX1_remove cX1_remove 2 (some .boolean) (rmH 0) K (mW K q) S [.ref (q 0), .int x] (fun r S' => mrR S x r S' ∧ mOK S') := by
  refine z_entryI RX1 (by decide) rfl (Nat.le_of_ble_eq_true rfl) (lv := [(0, .ref (q 0)), (1, .int x)]) rfl (fun X hK hl hc hr => ?_)
  subst hK; subst hl
  refine z_iload_n hc dX1_remove_0 1 rfl rfl ?_
  refine z_if_lt hc 19 dX1_remove_1 (by decide) rfl (fun h1 => ?_) (fun h1 => ?_)
  · refine z_iconst hc ((nI 0)) dX1_remove_19 (by decide) ?_
    exact z_iret hc hr (narZ 0 (by decide)) dX1_remove_20 (⟨Or.inl ⟨by unfold thI; rw [decide_eq_false (by omega)]; rfl, rfl, rfl⟩, k1⟩)
  · refine z_iload_n hc dX1_remove_4 1 rfl rfl ?_
    refine z_bipush hc ((nI 6)) dX1_remove_5 (by decide) ?_
    refine z_icmp_gt hc 19 dX1_remove_7 (by decide) rfl (toInt_nI (by omega)) (fun h2 => ?_) (fun h2 => ?_)
    · refine z_iconst hc ((nI 0)) dX1_remove_19 (by decide) ?_
      exact z_iret hc hr (narZ 0 (by decide)) dX1_remove_20 (⟨Or.inl ⟨by unfold thI; rw [decide_eq_false (by omega)]; rfl, rfl, rfl⟩, k1⟩)
    · obtain ⟨f, kf, rfl⟩ := nI_ex (x := x) (n := 7) (by omega) (by omega)
      have b1 : S 1 f < 2 := k1 1 f
      refine z_aload_n hc dX1_remove_10 0 rfl rfl ?_
      refine z_mget hc 0 (by decide) q201 rfl dX1_remove_11 ?_
      refine z_iload_n hc dX1_remove_14 1 rfl rfl ?_
      refine z_zald (q0 := 1) (N := 7) (f := S 1) hc rfl (show f < 7 by omega) (by decide) dX1_remove_15 ?_
      refine z_if_ne hc 21 dX1_remove_16 (by decide) (toInt_nI (by omega)) (fun h3 => ?_) (fun h3 => ?_)
      · refine z_aload_n hc dX1_remove_21 0 rfl rfl ?_
        refine z_mget hc 0 (by decide) q201 rfl dX1_remove_22 ?_
        refine z_iload_n hc dX1_remove_25 1 rfl rfl ?_
        refine z_iconst hc ((nI 0)) dX1_remove_26 (by decide) ?_
        refine z_zast (q0 := 1) (N := 7) (f := S 1) hc rfl (show f < 7 by omega) (by decide) (show 0 < 2 by omega) (mW_set1 _ _ _ _ _) dX1_remove_27 ?_
        refine z_iconst hc ((nI 1)) dX1_remove_28 (by decide) ?_
        exact z_iret hc hr (narZ 1 (by decide)) dX1_remove_29 (⟨Or.inr ⟨f, kf, rfl, by omega, rfl, rfl⟩, k1.up 1 _ (show 0 < 2 by decide)⟩)
      · refine z_iconst hc ((nI 0)) dX1_remove_19 (by decide) ?_
        exact z_iret hc hr (narZ 0 (by decide)) dX1_remove_20 (⟨Or.inl ⟨by rw [thI_n kf]; exact decide_eq_false (by omega), rfl, rfl⟩, k1⟩)
theorem m_facts (l : Launch) (K : zK) (q : Nat → Nat) (S : ES) (k1 : mOK S) : zMi l yX1_facts cX1_facts 3 (some .int) (rmH 0) K (mW K q) S [.ref (q 0)] (fun r S' => r = nI (fcM S) ∧ S' = S) := by
  refine z_entryI RX1 (by decide) rfl (Nat.le_of_ble_eq_true rfl) (lv := [(0, .ref (q 0))]) rfl (fun X hK hl hc hr => ?_)
  subst hK; subst hl
  obtain ⟨b, hb⟩ : ∃ b, b = fun f => decide (¬ S 1 f = 0) := ⟨_, rfl⟩
  refine z_iconst hc ((nI 0)) dX1_facts_0 (by decide) ?_
  refine z_istore_n (lv' := [(0, .ref (q 0)), (1, .int (nI 0))]) hc dX1_facts_1 rfl (by decide) rfl ?_
  refine z_iconst hc ((nI 0)) dX1_facts_2 (by decide) ?_
  refine z_istore_n (lv' := [(0, .ref (q 0)), (1, .int (nI 0)), (2, .int (nI 0))]) hc dX1_facts_3 rfl (by decide) rfl ?_
  have L : ∀ (f : Nat) (t : Unit), f ≤ 7 → True → zG X (mW (zx_K X) q) 3 S [(0, .ref (q 0)), (1, .int (nI (rdP b f))), (2, .int (nI f))] 4 [] := by
    refine z_loop 7 (fun _ _ => True) _ (fun f t hf hI ih => ?_)
    have b1 : S 1 f < 2 := k1 1 f
    have q1 : f ≤ 7 → 2 ^ f ≤ 2 ^ 7 := fun h => Nat.pow_le_pow_right (by decide) h
    refine z_iload_n hc dX1_facts_4 2 rfl rfl ?_
    refine z_bipush hc ((nI 7)) dX1_facts_5 (by decide) ?_
    refine z_icmp_ge hc 35 dX1_facts_7 (by decide) (toInt_nI (by omega)) (toInt_nI (by omega)) (fun h1 => ?_) (fun h1 => ?_)
    · have e : f = 7 := by omega
      subst e
      refine z_iload_n hc dX1_facts_35 1 rfl rfl ?_
      exact z_iret hc hr rfl dX1_facts_36 (⟨by rw [hb]; rfl, rfl⟩)
    · refine z_aload_n hc dX1_facts_10 0 rfl rfl ?_
      refine z_mget hc 0 (by decide) q201 rfl dX1_facts_11 ?_
      refine z_iload_n hc dX1_facts_14 2 rfl rfl ?_
      refine z_zald (q0 := 1) (N := 7) (f := S 1) hc rfl (show f < 7 by omega) (by decide) dX1_facts_15 ?_
      refine z_if_eq hc 27 dX1_facts_16 (by decide) (toInt_nI (by omega)) (fun h2 => ?_) (fun h2 => ?_)
      · refine z_iload_n hc dX1_facts_27 1 rfl rfl ?_
        refine z_nat (b := rdP b (f + 1)) (rdP_0 (n := f) (by rw [hb]; exact decide_eq_false (by omega))) ?_
        refine z_istore_n (lv' := [(0, .ref (q 0)), (1, .int (nI (rdP b (f + 1)))), (2, .int (nI f))]) hc dX1_facts_28 rfl (by decide) rfl ?_
        refine z_iinc (a := f) (lv' := [(0, .ref (q 0)), (1, .int (nI (rdP b (f + 1)))), (2, .int (nI (f + 1)))]) hc dX1_facts_29 2 rfl (by decide) rfl ?_
        refine z_goto hc 4 dX1_facts_32 (by decide) ?_
        exact ih (by omega) () trivial
      · have q2 := q1 hf
        refine z_iload_n hc dX1_facts_19 1 rfl rfl ?_
        refine z_iconst hc ((nI 1)) dX1_facts_20 (by decide) ?_
        refine z_iload_n hc dX1_facts_21 2 rfl rfl ?_
        refine z_ishl hc dX1_facts_22 (2 ^ f) rfl (by omega) (by omega) ?_
        refine z_nat (b := 2 ^ f) (Nat.one_mul _) ?_
        refine z_ior (a := rdP b f) (b := 2 ^ f) hc dX1_facts_23 ?_
        refine z_goto hc 28 dX1_facts_24 (by decide) ?_
        refine z_nat (b := rdP b (f + 1)) (rdP_1 (by rw [hb]; exact decide_eq_true (by omega))) ?_
        refine z_istore_n (lv' := [(0, .ref (q 0)), (1, .int (nI (rdP b (f + 1)))), (2, .int (nI f))]) hc dX1_facts_28 rfl (by decide) rfl ?_
        refine z_iinc (a := f) (lv' := [(0, .ref (q 0)), (1, .int (nI (rdP b (f + 1)))), (2, .int (nI (f + 1)))]) hc dX1_facts_29 2 rfl (by decide) rfl ?_
        refine z_goto hc 4 dX1_facts_32 (by decide) ?_
        exact ih (by omega) () trivial
  exact L 0 () (by decide) trivial
theorem m_matches (l : Launch) (K : zK) (q : Nat → Nat) (S : ES) (x : Int32) (k1 : mOK S) : zMi l yX1_matches cX1_matches 2 (some .int) (rmH 5) K (mW K q) S [.ref (q 0), .int x] (fun r S' => r = mtM S x ∧ eqm S S' ∧ mOK S') := by
  refine z_entryI RX1 (by decide) rfl (Nat.le_of_ble_eq_true rfl) (lv := [(0, .ref (q 0)), (1, .int x)]) rfl (fun X hK hl hc hr => ?_)
  subst hK; subst hl
  refine z_aload_n hc dX1_matches_0 0 rfl rfl ?_
  refine z_iload_n hc dX1_matches_1 1 rfl rfl ?_
  refine z_callVi (ci := 1) (q0 := 0) (As := [.int x]) (rest := []) hc (m_rule _ _ q S x) gX1_rule aX1_rule (by decide) rfl rfl rfl rfl (Nat.le_of_ble_eq_true rfl) dX1_matches_2 (fun rx Sx h1 => ?_)
  rw [h1.1, h1.2]
  refine z_ifeqB hc 22 dX1_matches_5 (by decide) (fun h2 => ?_) (fun h2 => ?_)
  · refine z_iconst hc ((-1)) dX1_matches_22 (by decide) ?_
    exact z_iret hc hr rfl dX1_matches_23 (⟨by unfold mtM; rw [if_neg (by rw [h2]; decide)], eqm.rf, k1⟩)
  · obtain ⟨a, ka, rfl⟩ : ∃ a : Nat, a < 3 ∧ x = nI a := by unfold isR at h2; have h2 := of_decide_eq_true h2; exact nI_ex h2.1 h2.2
    have b5 : S 5 a < 4 := k1 5 a
    refine z_aload_n hc dX1_matches_8 0 rfl rfl ?_
    refine z_iload_n hc dX1_matches_9 1 rfl rfl ?_
    refine z_aload_n hc dX1_matches_10 0 rfl rfl ?_
    refine z_mget hc 4 (by decide) q205 rfl dX1_matches_11 ?_
    refine z_iload_n hc dX1_matches_14 1 rfl rfl ?_
    refine z_iald (q0 := 5) (N := 3) (f := S 5) hc rfl (show a < 3 by omega) (by decide) dX1_matches_15 ?_
    refine z_callVi (ci := 1) (q0 := 0) (As := [.int (nI a), .int (nI (S 5 a))]) (rest := []) hc (m_count _ _ q S a (S 5 a) k1 ka (by omega)) gX1_count aX1_count (by decide) rfl rfl rfl rfl (Nat.le_of_ble_eq_true rfl) dX1_matches_16 (fun rx S1 h3 => ?_)
    rw [h3.1]
    refine z_goto hc 23 dX1_matches_19 (by decide) ?_
    exact z_iret hc hr rfl dX1_matches_23 (⟨(mtM_n S ka).symm, h3.2⟩)
theorem m_match (l : Launch) (K : zK) (q : Nat → Nat) (S : ES) (x k : Int32) (k1 : mOK S) : zMi l yX1_match cX1_match 5 (some .int) (rmH 4) K (mW K q) S [.ref (q 0), .int x, .int k] (fun r S' => mchM S x k r ∧ eqm S S' ∧ mOK S') := by
  refine z_entryI RX1 (by decide) rfl (Nat.le_of_ble_eq_true rfl) (lv := [(0, .ref (q 0)), (1, .int x), (2, .int k)]) rfl (fun X hK hl hc hr => ?_)
  subst hK; subst hl
  refine z_iconst hc ((nI 0)) dX1_match_0 (by decide) ?_
  refine z_istore_n (lv' := [(0, .ref (q 0)), (1, .int x), (2, .int k), (3, .int (nI 0))]) hc dX1_match_1 rfl (by decide) rfl ?_
  refine z_iconst hc ((nI 0)) dX1_match_2 (by decide) ?_
  refine z_istore (lv' := [(0, .ref (q 0)), (1, .int x), (2, .int k), (3, .int (nI 0)), (4, .int (nI 0))]) hc dX1_match_3 (by decide) rfl ?_
  by_cases h2 : isR x = true
  · have h2' := h2
    obtain ⟨a, ka, rfl⟩ : ∃ a : Nat, a < 3 ∧ x = nI a := by unfold isR at h2; have h2 := of_decide_eq_true h2; exact nI_ex h2.1 h2.2
    obtain ⟨L, hL⟩ : ∃ L, L = S 5 a := ⟨_, rfl⟩
    have b5 : L < 4 := by rw [hL]; exact k1 5 a
    obtain ⟨p, hp⟩ : ∃ p, p = fun c => imB S a L c := ⟨_, rfl⟩
    have Lp : ∀ (c : Nat) (S1 : ES), c ≤ 512 → ((∀ i, i < c → p i = true → ¬ k = nI (ctP p i)) ∧ eqm S S1 ∧ mOK S1) → zG X (mW (zx_K X) q) 5 S1 [(0, .ref (q 0)), (1, .int (nI a)), (2, .int k), (3, .int (nI (ctP p c))), (4, .int (nI c))] 5 [] := by
      refine z_loop 512 _ _ (fun c S1 hcc hI ih => ?_)
      obtain ⟨i0, i1, i2⟩ := hI
      have c1 := ctP_le p c
      have e5 : S1 5 a = L := by rw [i1 5 (by decide), hL]
      refine z_iload hc dX1_match_5 4 rfl ?_
      refine z_sipush hc ((nI 512)) dX1_match_7 (by decide) ?_
      refine z_icmp_ge hc 54 dX1_match_10 (by decide) (toInt_nI (by omega)) (toInt_nI (by omega)) (fun h3 => ?_) (fun h3 => ?_)
      · have e : c = 512 := by omega
        subst e
        refine z_iconst hc ((-1)) dX1_match_54 (by decide) ?_
        exact z_iret hc hr rfl dX1_match_55 (⟨Or.inr ⟨a, ka, rfl, by rw [← hL, ← hp]; exact Or.inr ⟨i0, rfl⟩⟩, i1, i2⟩)
      · refine z_aload_n hc dX1_match_13 0 rfl rfl ?_
        refine z_iload_n hc dX1_match_14 1 rfl rfl ?_
        refine z_callVi (ci := 1) (q0 := 0) (As := [.int (nI a)]) (rest := []) hc (m_rule _ _ q S1 (nI a)) gX1_rule aX1_rule (by decide) rfl rfl rfl rfl (Nat.le_of_ble_eq_true rfl) dX1_match_15 (fun rx Sx h4 => ?_)
        rw [h4.1, h4.2]
        refine z_ifeqB hc 54 dX1_match_18 (by decide) (fun h5 => ?_) (fun h5 => ?_)
        · exact absurd (h2'.symm.trans h5) (by decide)
        · refine z_aload_n hc dX1_match_21 0 rfl rfl ?_
          refine z_iload_n hc dX1_match_22 1 rfl rfl ?_
          refine z_aload_n hc dX1_match_23 0 rfl rfl ?_
          refine z_mget hc 4 (by decide) q205 rfl dX1_match_24 ?_
          refine z_iload_n hc dX1_match_27 1 rfl rfl ?_
          refine z_iald (q0 := 5) (N := 3) (f := S1 5) hc rfl (show a < 3 by omega) (by decide) dX1_match_28 ?_
          refine z_nat (b := L) (e5) ?_
          refine z_iload hc dX1_match_29 4 rfl ?_
          refine z_callVi (ci := 1) (q0 := 0) (As := [.int (nI a), .int (nI L), .int (nI c)]) (rest := []) hc (m_isMatch _ _ q S1 a L c i2 ka (by omega) (by omega)) gX1_isMatch aX1_isMatch (by decide) rfl rfl rfl rfl (Nat.le_of_ble_eq_true rfl) dX1_match_31 (fun rx S2 h6 => ?_)
          obtain ⟨g1, g2, g3⟩ := h6
          rw [imB_c i1] at g1
          rw [g1]
          refine z_ifeqB hc 48 dX1_match_34 (by decide) (fun h7 => ?_) (fun h7 => ?_)
          · have h7 : p c = false := by rw [hp]; exact h7
            rw [show ctP p c = ctP p (c + 1) from ctP_0 h7]
            refine z_iinc (a := c) (lv' := [(0, .ref (q 0)), (1, .int (nI a)), (2, .int k), (3, .int (nI (ctP p (c + 1)))), (4, .int (nI (c + 1)))]) hc dX1_match_48 4 rfl (by decide) rfl ?_
            refine z_goto hc 5 dX1_match_51 (by decide) ?_
            refine ih (by omega) S2 ⟨fun i hi hpi => ?_, i1.tr g2, g3⟩
            by_cases e : i = c
            · rw [e, h7] at hpi; cases hpi
            · exact i0 i (by omega) hpi
          · have h7 : p c = true := by rw [hp]; exact h7
            refine z_iload_n hc dX1_match_37 3 rfl rfl ?_
            refine z_iload_n hc dX1_match_38 2 rfl rfl ?_
            refine z_icmp_ne hc 45 dX1_match_39 (by decide) (toInt_nI (by omega)) rfl (fun h8 => ?_) (fun h8 => ?_)
            · refine z_iinc (a := ctP p c) (lv' := [(0, .ref (q 0)), (1, .int (nI a)), (2, .int k), (3, .int (nI (ctP p c + 1))), (4, .int (nI c))]) hc dX1_match_45 3 rfl (by decide) rfl ?_
              rw [ctP_1 h7]
              refine z_iinc (a := c) (lv' := [(0, .ref (q 0)), (1, .int (nI a)), (2, .int k), (3, .int (nI (ctP p (c + 1)))), (4, .int (nI (c + 1)))]) hc dX1_match_48 4 rfl (by decide) rfl ?_
              refine z_goto hc 5 dX1_match_51 (by decide) ?_
              refine ih (by omega) S2 ⟨fun i hi hpi => ?_, i1.tr g2, g3⟩
              by_cases e : i = c
              · rw [e]; exact fun hk => h8 (by rw [hk, toInt_nI (by omega)])
              · exact i0 i (by omega) hpi
            · refine z_iload hc dX1_match_42 4 rfl ?_
              exact z_iret hc hr rfl dX1_match_44 (⟨Or.inr ⟨a, ka, rfl, by rw [← hL, ← hp]; exact Or.inl ⟨c, by omega, h7, Int32.toInt_inj.mp (by rw [toInt_nI (by omega)]; exact h8.symm), by rw [Nat.zero_add]⟩⟩, i1.tr g2, g3⟩)
    exact Lp 0 S (by decide) ⟨fun i hi => absurd hi (Nat.not_lt_zero i), eqm.rf, k1⟩
  · have h2 : isR x = false := Bool.not_eq_true _ |>.mp h2
    refine z_iload hc dX1_match_5 4 rfl ?_
    refine z_sipush hc ((nI 512)) dX1_match_7 (by decide) ?_
    refine z_icmp_ge hc 54 dX1_match_10 (by decide) (toInt_nI (by omega)) (toInt_nI (by omega)) (fun h3 => ?_) (fun h3 => ?_)
    · exfalso
      omega
    · refine z_aload_n hc dX1_match_13 0 rfl rfl ?_
      refine z_iload_n hc dX1_match_14 1 rfl rfl ?_
      refine z_callVi (ci := 1) (q0 := 0) (As := [.int x]) (rest := []) hc (m_rule _ _ q S x) gX1_rule aX1_rule (by decide) rfl rfl rfl rfl (Nat.le_of_ble_eq_true rfl) dX1_match_15 (fun rx Sx h4 => ?_)
      rw [h4.1, h4.2]
      refine z_ifeqB hc 54 dX1_match_18 (by decide) (fun h5 => ?_) (fun h5 => ?_)
      · refine z_iconst hc ((-1)) dX1_match_54 (by decide) ?_
        exact z_iret hc hr rfl dX1_match_55 (⟨Or.inl ⟨h2, rfl⟩, eqm.rf, k1⟩)
      · exact absurd (h2.symm.trans h5) (by decide)
theorem m_ready (l : Launch) (K : zK) (q : Nat → Nat) (S : ES) (k1 : mOK S) : zMi l yX1_ready cX1_ready 3 (some .int) (rmH 6) K (mW K q) S [.ref (q 0)] (fun r S' => r = nI (rdP (fun a => decide (0 < cntM S a (S 5 a))) 3) ∧ eqm S S' ∧ mOK S') := by
  refine z_entryI RX1 (by decide) rfl (Nat.le_of_ble_eq_true rfl) (lv := [(0, .ref (q 0))]) rfl (fun X hK hl hc hr => ?_)
  subst hK; subst hl
  obtain ⟨b, hb⟩ : ∃ b, b = fun a => decide (0 < cntM S a (S 5 a)) := ⟨_, rfl⟩
  refine z_iconst hc ((nI 0)) dX1_ready_0 (by decide) ?_
  refine z_istore_n (lv' := [(0, .ref (q 0)), (1, .int (nI 0))]) hc dX1_ready_1 rfl (by decide) rfl ?_
  refine z_iconst hc ((nI 0)) dX1_ready_2 (by decide) ?_
  refine z_istore_n (lv' := [(0, .ref (q 0)), (1, .int (nI 0)), (2, .int (nI 0))]) hc dX1_ready_3 rfl (by decide) rfl ?_
  have Lp : ∀ (a : Nat) (S1 : ES), a ≤ 3 → (eqm S S1 ∧ mOK S1) → zG X (mW (zx_K X) q) 3 S1 [(0, .ref (q 0)), (1, .int (nI (rdP b a))), (2, .int (nI a))] 4 [] := by
    refine z_loop 3 _ _ (fun a S1 ha hI ih => ?_)
    obtain ⟨i1, i2⟩ := hI
    have c1 := cntM_le S a (S 5 a)
    refine z_iload_n hc dX1_ready_4 2 rfl rfl ?_
    refine z_iconst hc ((nI 3)) dX1_ready_5 (by decide) ?_
    refine z_icmp_ge hc 33 dX1_ready_6 (by decide) (toInt_nI (by omega)) (toInt_nI (by omega)) (fun h1 => ?_) (fun h1 => ?_)
    · have e : a = 3 := by omega
      subst e
      refine z_iload_n hc dX1_ready_33 1 rfl rfl ?_
      exact z_iret hc hr rfl dX1_ready_34 (⟨by rw [hb], i1, i2⟩)
    · refine z_aload_n hc dX1_ready_9 0 rfl rfl ?_
      refine z_iload_n hc dX1_ready_10 2 rfl rfl ?_
      refine z_callVi (ci := 1) (q0 := 0) (As := [.int (nI a)]) (rest := []) hc (m_matches _ _ q S1 (nI a) i2) gX1_matches aX1_matches (by decide) rfl rfl rfl rfl (Nat.le_of_ble_eq_true rfl) dX1_ready_11 (fun rx S2 h2 => ?_)
      obtain ⟨g1, g2, g3⟩ := h2
      rw [mtM_c i1, mtM_n S (by omega)] at g1
      rw [g1]
      refine z_if_le hc 25 dX1_ready_14 (by decide) (toInt_nI (by omega)) (fun h3 => ?_) (fun h3 => ?_)
      · refine z_iload_n hc dX1_ready_25 1 rfl rfl ?_
        refine z_nat (b := rdP b (a + 1)) (rdP_0 (n := a) (by rw [hb]; exact decide_eq_false (by omega))) ?_
        refine z_istore_n (lv' := [(0, .ref (q 0)), (1, .int (nI (rdP b (a + 1)))), (2, .int (nI a))]) hc dX1_ready_26 rfl (by decide) rfl ?_
        refine z_iinc (a := a) (lv' := [(0, .ref (q 0)), (1, .int (nI (rdP b (a + 1)))), (2, .int (nI (a + 1)))]) hc dX1_ready_27 2 rfl (by decide) rfl ?_
        refine z_goto hc 4 dX1_ready_30 (by decide) ?_
        exact ih (by omega) S2 ⟨i1.tr g2, g3⟩
      · have q1 : 2 ^ a ≤ 2 ^ 3 := Nat.pow_le_pow_right (by decide) (by omega)
        refine z_iload_n hc dX1_ready_17 1 rfl rfl ?_
        refine z_iconst hc ((nI 1)) dX1_ready_18 (by decide) ?_
        refine z_iload_n hc dX1_ready_19 2 rfl rfl ?_
        refine z_ishl hc dX1_ready_20 (2 ^ a) rfl (by omega) (by omega) ?_
        refine z_nat (b := 2 ^ a) (Nat.one_mul _) ?_
        refine z_ior (a := rdP b a) (b := 2 ^ a) hc dX1_ready_21 ?_
        refine z_goto hc 26 dX1_ready_22 (by decide) ?_
        refine z_nat (b := rdP b (a + 1)) (rdP_1 (by rw [hb]; exact decide_eq_true (by omega))) ?_
        refine z_istore_n (lv' := [(0, .ref (q 0)), (1, .int (nI (rdP b (a + 1)))), (2, .int (nI a))]) hc dX1_ready_26 rfl (by decide) rfl ?_
        refine z_iinc (a := a) (lv' := [(0, .ref (q 0)), (1, .int (nI (rdP b (a + 1)))), (2, .int (nI (a + 1)))]) hc dX1_ready_27 2 rfl (by decide) rfl ?_
        refine z_goto hc 4 dX1_ready_30 (by decide) ?_
        exact ih (by omega) S2 ⟨i1.tr g2, g3⟩
  exact Lp 0 S (by decide) ⟨eqm.rf, k1⟩
theorem m_uses (l : Launch) (K : zK) (q : Nat → Nat) (S : ES) (x : Int32) (k1 : mOK S) : zMi l yX1_uses cX1_uses 6 (some .int) (rmH 4) K (mW K q) S [.ref (q 0), .int x] (fun r S' => r = usM S x ∧ eqm S S' ∧ mOK S') := by
  refine z_entryI RX1 (by decide) rfl (Nat.le_of_ble_eq_true rfl) (lv := [(0, .ref (q 0)), (1, .int x)]) rfl (fun X hK hl hc hr => ?_)
  subst hK; subst hl
  refine z_iload_n hc dX1_uses_0 1 rfl rfl ?_
  refine z_if_lt hc 19 dX1_uses_1 (by decide) rfl (fun h1 => ?_) (fun h1 => ?_)
  · refine z_iconst hc ((-1)) dX1_uses_19 (by decide) ?_
    exact z_iret hc hr rfl dX1_uses_20 (⟨by unfold usM; rw [if_neg (by rw [show thI S _ = false from by unfold thI; rw [decide_eq_false (by omega)]; rfl]; decide)], eqm.rf, k1⟩)
  · refine z_iload_n hc dX1_uses_4 1 rfl rfl ?_
    refine z_bipush hc ((nI 6)) dX1_uses_5 (by decide) ?_
    refine z_icmp_gt hc 19 dX1_uses_7 (by decide) rfl (toInt_nI (by omega)) (fun h2 => ?_) (fun h2 => ?_)
    · refine z_iconst hc ((-1)) dX1_uses_19 (by decide) ?_
      exact z_iret hc hr rfl dX1_uses_20 (⟨by unfold usM; rw [if_neg (by rw [show thI S _ = false from by unfold thI; rw [decide_eq_false (by omega)]; rfl]; decide)], eqm.rf, k1⟩)
    · obtain ⟨f, kf, rfl⟩ := nI_ex (x := x) (n := 7) (by omega) (by omega)
      have b1 : S 1 f < 2 := k1 1 f
      refine z_aload_n hc dX1_uses_10 0 rfl rfl ?_
      refine z_mget hc 0 (by decide) q201 rfl dX1_uses_11 ?_
      refine z_iload_n hc dX1_uses_14 1 rfl rfl ?_
      refine z_zald (q0 := 1) (N := 7) (f := S 1) hc rfl (show f < 7 by omega) (by decide) dX1_uses_15 ?_
      refine z_if_ne hc 21 dX1_uses_16 (by decide) (toInt_nI (by omega)) (fun h3 => ?_) (fun h3 => ?_)
      · obtain ⟨p, hp⟩ : ∃ p, p = fun c => hs3 (c % 512) f && imB S (c / 512) (S 5 (c / 512)) (c % 512) := ⟨_, rfl⟩
        refine z_iconst hc ((nI 0)) dX1_uses_21 (by decide) ?_
        refine z_istore_n (lv' := [(0, .ref (q 0)), (1, .int (nI f)), (2, .int (nI 0))]) hc dX1_uses_22 rfl (by decide) rfl ?_
        refine z_iconst hc ((nI 0)) dX1_uses_23 (by decide) ?_
        refine z_istore_n (lv' := [(0, .ref (q 0)), (1, .int (nI f)), (2, .int (nI 0)), (3, .int (nI 0))]) hc dX1_uses_24 rfl (by decide) rfl ?_
        have L : ∀ (c : Nat) (S1 : ES), c ≤ 1536 → (eqm S S1 ∧ mOK S1) → zG X (mW (zx_K X) q) 6 S1 [(0, .ref (q 0)), (1, .int (nI f)), (2, .int (nI (ctP p c))), (3, .int (nI c))] 25 [] := by
          refine z_loop 1536 _ _ (fun c S1 hcc hI ih => ?_)
          obtain ⟨i1, i2⟩ := hI
          refine z_iload_n hc dX1_uses_25 3 rfl rfl ?_
          refine z_sipush hc ((nI 1536)) dX1_uses_26 (by decide) ?_
          refine z_icmp_ge hc 118 dX1_uses_29 (by decide) (toInt_nI (by omega)) (toInt_nI (by omega)) (fun h4 => ?_) (fun h4 => ?_)
          · have e : c = 1536 := by omega
            subst e
            refine z_iload_n hc dX1_uses_118 2 rfl rfl ?_
            exact z_iret hc hr rfl dX1_uses_119 (⟨by unfold usM; rw [if_pos (by rw [thI_n kf]; exact decide_eq_true (by omega)), tn_nI (by omega), hp], i1, i2⟩)
          · have b5 : S1 5 (c / 512) < 4 := i2 5 _
            have e5 : S1 5 = S 5 := i1 5 (by decide)
            refine z_iload_n hc dX1_uses_32 3 rfl rfl ?_
            refine z_sipush hc ((nI 512)) dX1_uses_33 (by decide) ?_
            refine z_irem (a := c) (b := 512) hc dX1_uses_36 (by omega) (by omega) (by omega) ?_
            refine z_istore (lv' := [(0, .ref (q 0)), (1, .int (nI f)), (2, .int (nI (ctP p c))), (3, .int (nI c)), (4, .int (nI (c % 512)))]) hc dX1_uses_37 (by decide) rfl ?_
            refine z_iload hc dX1_uses_39 4 rfl ?_
            refine z_bipush hc ((nI 7)) dX1_uses_41 (by decide) ?_
            refine z_iandm hc 3 8 dX1_uses_43 (by decide) (by decide) ?_
            refine z_iload_n hc dX1_uses_44 1 rfl rfl ?_
            have J73 : ∀ hb : Bool, hb = hs3 (c % 512) f → zG X (mW (zx_K X) q) 6 S1 [(0, .ref (q 0)), (1, .int (nI f)), (2, .int (nI (ctP p c))), (3, .int (nI c)), (4, .int (nI (c % 512)))] 73 [.int (nI hb.toNat)] := by
              intro hb hhb
              refine z_istore (lv' := [(0, .ref (q 0)), (1, .int (nI f)), (2, .int (nI (ctP p c))), (3, .int (nI c)), (4, .int (nI (c % 512))), (5, .int (nI hb.toNat))]) hc dX1_uses_73 (by decide) rfl ?_
              refine z_iload hc dX1_uses_75 5 rfl ?_
              refine z_ifeqB hc 110 dX1_uses_77 (by decide) (fun h4 => ?_) (fun h4 => ?_)
              · refine z_iload_n hc dX1_uses_110 2 rfl rfl ?_
                refine z_nat (b := ctP p (c + 1)) (ctP_0 (n := c) (by rw [hp]; show (hs3 (c % 512) f && _) = false; rw [← hhb, h4]; rfl)) ?_
                refine z_istore_n (lv' := [(0, .ref (q 0)), (1, .int (nI f)), (2, .int (nI (ctP p (c + 1)))), (3, .int (nI c)), (4, .int (nI (c % 512))), (5, .int (nI hb.toNat))]) hc dX1_uses_111 rfl (by decide) rfl ?_
                refine z_iinc (a := c) (lv' := [(0, .ref (q 0)), (1, .int (nI f)), (2, .int (nI (ctP p (c + 1)))), (3, .int (nI (c + 1))), (4, .int (nI (c % 512))), (5, .int (nI hb.toNat))]) hc dX1_uses_112 3 rfl (by decide) rfl ?_
                refine z_goto hc 25 dX1_uses_115 (by decide) ?_
                refine z_sub [0, 1, 2, 3] rfl ?_
                exact ih (by omega) S1 ⟨i1, i2⟩
              · refine z_aload_n hc dX1_uses_80 0 rfl rfl ?_
                refine z_iload_n hc dX1_uses_81 3 rfl rfl ?_
                refine z_sipush hc ((nI 512)) dX1_uses_82 (by decide) ?_
                refine z_idiv (a := c) (b := 512) hc dX1_uses_85 (by omega) (by omega) (by omega) ?_
                refine z_aload_n hc dX1_uses_86 0 rfl rfl ?_
                refine z_mget hc 4 (by decide) q205 rfl dX1_uses_87 ?_
                refine z_iload_n hc dX1_uses_90 3 rfl rfl ?_
                refine z_sipush hc ((nI 512)) dX1_uses_91 (by decide) ?_
                refine z_idiv (a := c) (b := 512) hc dX1_uses_94 (by omega) (by omega) (by omega) ?_
                refine z_iald (q0 := 5) (N := 3) (f := S1 5) hc rfl (show c / 512 < 3 by omega) (by decide) dX1_uses_95 ?_
                refine z_iload hc dX1_uses_96 4 rfl ?_
                refine z_callVi (ci := 1) (q0 := 0) (As := [.int (nI (c / 512)), .int (nI (S1 5 (c / 512))), .int (nI (c % 512))]) (rest := []) hc (m_isMatch _ _ q S1 (c / 512) (S1 5 (c / 512)) (c % 512) i2 (by omega) (by omega) (by omega)) gX1_isMatch aX1_isMatch (by decide) rfl rfl rfl rfl (Nat.le_of_ble_eq_true rfl) dX1_uses_98 (fun rx S2 h6 => ?_)
                obtain ⟨g1, g2, g3⟩ := h6
                rw [imB_c i1, e5] at g1
                rw [g1]
                refine z_ifeqB hc 110 dX1_uses_101 (by decide) (fun h7 => ?_) (fun h7 => ?_)
                · refine z_iload_n hc dX1_uses_110 2 rfl rfl ?_
                  refine z_nat (b := ctP p (c + 1)) (ctP_0 (n := c) (by rw [hp]; show (hs3 (c % 512) f && imB S (c / 512) (S 5 (c / 512)) (c % 512)) = false; rw [← hhb, h4, h7]; rfl)) ?_
                  refine z_istore_n (lv' := [(0, .ref (q 0)), (1, .int (nI f)), (2, .int (nI (ctP p (c + 1)))), (3, .int (nI c)), (4, .int (nI (c % 512))), (5, .int (nI hb.toNat))]) hc dX1_uses_111 rfl (by decide) rfl ?_
                  refine z_iinc (a := c) (lv' := [(0, .ref (q 0)), (1, .int (nI f)), (2, .int (nI (ctP p (c + 1)))), (3, .int (nI (c + 1))), (4, .int (nI (c % 512))), (5, .int (nI hb.toNat))]) hc dX1_uses_112 3 rfl (by decide) rfl ?_
                  refine z_goto hc 25 dX1_uses_115 (by decide) ?_
                  refine z_sub [0, 1, 2, 3] rfl ?_
                  exact ih (by omega) S2 ⟨i1.tr g2, g3⟩
                · refine z_iload_n hc dX1_uses_104 2 rfl rfl ?_
                  refine z_iconst hc ((nI 1)) dX1_uses_105 (by decide) ?_
                  refine z_iadd (a := ctP p c) (b := 1) hc dX1_uses_106 ?_
                  refine z_goto hc 111 dX1_uses_107 (by decide) ?_
                  refine z_nat (b := ctP p (c + 1)) (ctP_1 (by rw [hp]; show (hs3 (c % 512) f && imB S (c / 512) (S 5 (c / 512)) (c % 512)) = true; rw [← hhb, h4, h7]; rfl)) ?_
                  refine z_istore_n (lv' := [(0, .ref (q 0)), (1, .int (nI f)), (2, .int (nI (ctP p (c + 1)))), (3, .int (nI c)), (4, .int (nI (c % 512))), (5, .int (nI hb.toNat))]) hc dX1_uses_111 rfl (by decide) rfl ?_
                  refine z_iinc (a := c) (lv' := [(0, .ref (q 0)), (1, .int (nI f)), (2, .int (nI (ctP p (c + 1)))), (3, .int (nI (c + 1))), (4, .int (nI (c % 512))), (5, .int (nI hb.toNat))]) hc dX1_uses_112 3 rfl (by decide) rfl ?_
                  refine z_goto hc 25 dX1_uses_115 (by decide) ?_
                  refine z_sub [0, 1, 2, 3] rfl ?_
                  exact ih (by omega) S2 ⟨i1.tr g2, g3⟩
            refine z_icmp_eq hc 68 dX1_uses_45 (by decide) (toInt_nI (by omega)) (toInt_nI (by omega)) (fun h5 => ?_) (fun h5 => ?_)
            · refine z_iconst hc ((nI 1)) dX1_uses_68 (by decide) ?_
              refine z_goto hc 73 dX1_uses_69 (by decide) ?_
              exact J73 true (by unfold hs3; exact (decide_eq_true (by omega)).symm)
            · refine z_iload hc dX1_uses_48 4 rfl ?_
              refine z_iconst hc ((nI 3)) dX1_uses_50 (by decide) ?_
              refine z_ishr hc dX1_uses_51 (8) (by decide) (by omega) (by omega) ?_
              refine z_bipush hc ((nI 7)) dX1_uses_52 (by decide) ?_
              refine z_iandm hc 3 8 dX1_uses_54 (by decide) (by decide) ?_
              refine z_iload_n hc dX1_uses_55 1 rfl rfl ?_
              refine z_icmp_eq hc 68 dX1_uses_56 (by decide) (toInt_nI (by omega)) (toInt_nI (by omega)) (fun h6 => ?_) (fun h6 => ?_)
              · refine z_iconst hc ((nI 1)) dX1_uses_68 (by decide) ?_
                refine z_goto hc 73 dX1_uses_69 (by decide) ?_
                exact J73 true (by unfold hs3; exact (decide_eq_true (by omega)).symm)
              · refine z_iload hc dX1_uses_59 4 rfl ?_
                refine z_bipush hc ((nI 6)) dX1_uses_61 (by decide) ?_
                refine z_ishr hc dX1_uses_63 (64) (by decide) (by omega) (by omega) ?_
                refine z_iload_n hc dX1_uses_64 1 rfl rfl ?_
                refine z_icmp_ne hc 72 dX1_uses_65 (by decide) (toInt_nI (by omega)) (toInt_nI (by omega)) (fun h7 => ?_) (fun h7 => ?_)
                · refine z_iconst hc ((nI 0)) dX1_uses_72 (by decide) ?_
                  exact J73 false (by unfold hs3; exact (decide_eq_false (by omega)).symm)
                · refine z_iconst hc ((nI 1)) dX1_uses_68 (by decide) ?_
                  refine z_goto hc 73 dX1_uses_69 (by decide) ?_
                  exact J73 true (by unfold hs3; exact (decide_eq_true (by omega)).symm)
        exact L 0 S (by decide) ⟨eqm.rf, k1⟩
      · refine z_iconst hc ((-1)) dX1_uses_19 (by decide) ?_
        exact z_iret hc hr rfl dX1_uses_20 (⟨by unfold usM; rw [if_neg (by rw [show thI S _ = false from by rw [thI_n kf]; exact decide_eq_false (by omega)]; decide)], eqm.rf, k1⟩)
theorem m_fitting (l : Launch) (K : zK) (q : Nat → Nat) (S : ES) (x y : Int32) (k1 : mOK S) : zMi l yX1_fitting cX1_fitting 9 (some .int) (rmH 1) K (mW K q) S [.ref (q 0), .int x, .int y] (fun r S' => r = ftM S x y ∧ S' = S) := by
  refine z_entryI RX1 (by decide) rfl (Nat.le_of_ble_eq_true rfl) (lv := [(0, .ref (q 0)), (1, .int x), (2, .int y)]) rfl (fun X hK hl hc hr => ?_)
  subst hK; subst hl
  refine z_aload_n hc dX1_fitting_0 0 rfl rfl ?_
  refine z_iload_n hc dX1_fitting_1 1 rfl rfl ?_
  refine z_callVi (ci := 1) (q0 := 0) (As := [.int x]) (rest := []) hc (m_rule _ _ q S x) gX1_rule aX1_rule (by decide) rfl rfl rfl rfl (Nat.le_of_ble_eq_true rfl) dX1_fitting_2 (fun rx Sx h1 => ?_)
  rw [h1.1, h1.2]
  refine z_ifeqB hc 22 dX1_fitting_5 (by decide) (fun h2 => ?_) (fun h2 => ?_)
  · refine z_iconst hc ((-1)) dX1_fitting_22 (by decide) ?_
    exact z_iret hc hr rfl dX1_fitting_23 (⟨by unfold ftM; rw [if_neg (by rw [h2]; exact fun h => absurd h.1 (by decide))], rfl⟩)
  · have h2' := h2
    obtain ⟨a, ka, rfl⟩ : ∃ a : Nat, a < 3 ∧ x = nI a := by unfold isR at h2; have h2 := of_decide_eq_true h2; exact nI_ex h2.1 h2.2
    have b5 : S 5 a < 4 := k1 5 a
    refine z_iload_n hc dX1_fitting_8 2 rfl rfl ?_
    refine z_if_lt hc 22 dX1_fitting_9 (by decide) rfl (fun h3 => ?_) (fun h3 => ?_)
    · refine z_iconst hc ((-1)) dX1_fitting_22 (by decide) ?_
      exact z_iret hc hr rfl dX1_fitting_23 (⟨by unfold ftM; rw [if_neg (fun h => by have := h.2.1; omega)], rfl⟩)
    · refine z_iload_n hc dX1_fitting_12 2 rfl rfl ?_
      refine z_aload_n hc dX1_fitting_13 0 rfl rfl ?_
      refine z_mget hc 4 (by decide) q205 rfl dX1_fitting_14 ?_
      refine z_iload_n hc dX1_fitting_17 1 rfl rfl ?_
      refine z_iald (q0 := 5) (N := 3) (f := S 5) hc rfl (show a < 3 by omega) (by decide) dX1_fitting_18 ?_
      refine z_icmp_lt hc 24 dX1_fitting_19 (by decide) rfl (toInt_nI (by omega)) (fun h4 => ?_) (fun h4 => ?_)
      · obtain ⟨i, ki, rfl⟩ := nI_ex (x := y) (n := S 5 a) (by omega) h4
        obtain ⟨wt, hwt⟩ : ∃ w, w = S 6 (3 * a + i) := ⟨_, rfl⟩
        have b6 : wt < 512 := by rw [hwt]; exact k1 6 _
        obtain ⟨p, hp⟩ : ∃ p, p = fun f => mlP S wt f := ⟨_, rfl⟩
        refine z_aload_n hc dX1_fitting_24 0 rfl rfl ?_
        refine z_mget hc 5 (by decide) q206 rfl dX1_fitting_25 ?_
        refine z_iconst hc ((nI 3)) dX1_fitting_28 (by decide) ?_
        refine z_iload_n hc dX1_fitting_29 1 rfl rfl ?_
        refine z_imul (a := 3) (b := a) hc dX1_fitting_30 ?_
        refine z_iload_n hc dX1_fitting_31 2 rfl rfl ?_
        refine z_iadd (a := 3 * a) (b := i) hc dX1_fitting_32 ?_
        refine z_iald (q0 := 6) (N := 9) (f := S 6) hc rfl (show (3 * a) + i < 9 by omega) (by decide) dX1_fitting_33 ?_
        refine z_nat (b := wt) (hwt.symm) ?_
        refine z_istore_n (lv' := [(0, .ref (q 0)), (1, .int (nI a)), (2, .int (nI i)), (3, .int (nI wt))]) hc dX1_fitting_34 rfl (by decide) rfl ?_
        refine z_iload_n hc dX1_fitting_35 3 rfl rfl ?_
        refine z_iconst hc ((nI 2)) dX1_fitting_36 (by decide) ?_
        refine z_ishr hc dX1_fitting_37 (4) (by decide) (by omega) (by omega) ?_
        refine z_bipush hc ((nI 7)) dX1_fitting_38 (by decide) ?_
        refine z_iandm hc 3 8 dX1_fitting_40 (by decide) (by decide) ?_
        refine z_istore (lv' := [(0, .ref (q 0)), (1, .int (nI a)), (2, .int (nI i)), (3, .int (nI wt)), (4, .int (nI ((wt / 4) % 8)))]) hc dX1_fitting_41 (by decide) rfl ?_
        refine z_iload_n hc dX1_fitting_43 3 rfl rfl ?_
        refine z_iconst hc ((nI 5)) dX1_fitting_44 (by decide) ?_
        refine z_ishr hc dX1_fitting_45 (32) (by decide) (by omega) (by omega) ?_
        refine z_bipush hc ((nI 7)) dX1_fitting_46 (by decide) ?_
        refine z_iandm hc 3 8 dX1_fitting_48 (by decide) (by decide) ?_
        refine z_istore (lv' := [(0, .ref (q 0)), (1, .int (nI a)), (2, .int (nI i)), (3, .int (nI wt)), (4, .int (nI ((wt / 4) % 8))), (5, .int (nI ((wt / 32) % 8)))]) hc dX1_fitting_49 (by decide) rfl ?_
        refine z_iconst hc ((nI 0)) dX1_fitting_51 (by decide) ?_
        refine z_istore (lv' := [(0, .ref (q 0)), (1, .int (nI a)), (2, .int (nI i)), (3, .int (nI wt)), (4, .int (nI ((wt / 4) % 8))), (5, .int (nI ((wt / 32) % 8))), (6, .int (nI 0))]) hc dX1_fitting_52 (by decide) rfl ?_
        refine z_iconst hc ((nI 0)) dX1_fitting_54 (by decide) ?_
        refine z_istore (lv' := [(0, .ref (q 0)), (1, .int (nI a)), (2, .int (nI i)), (3, .int (nI wt)), (4, .int (nI ((wt / 4) % 8))), (5, .int (nI ((wt / 32) % 8))), (6, .int (nI 0)), (7, .int (nI 0))]) hc dX1_fitting_55 (by decide) rfl ?_
        have L : ∀ (f : Nat) (t : Unit), f ≤ 7 → True → zG X (mW (zx_K X) q) 9 S [(0, .ref (q 0)), (1, .int (nI a)), (2, .int (nI i)), (3, .int (nI wt)), (4, .int (nI ((wt / 4) % 8))), (5, .int (nI ((wt / 32) % 8))), (6, .int (nI (ctP p f))), (7, .int (nI f))] 57 [] := by
          refine z_loop 7 (fun _ _ => True) _ (fun f t hf hI ih => ?_)
          have c1 : S 1 f < 2 := k1 1 f
          have c2 : S 2 f < 3 := k1 2 f
          have c3 : S 3 f < 4 := k1 3 f
          have c4 : S 4 f < 4 := k1 4 f
          refine z_iload hc dX1_fitting_57 7 rfl ?_
          refine z_bipush hc ((nI 7)) dX1_fitting_59 (by decide) ?_
          refine z_icmp_ge hc 152 dX1_fitting_61 (by decide) (toInt_nI (by omega)) (toInt_nI (by omega)) (fun h11 => ?_) (fun h11 => ?_)
          · have e : f = 7 := by omega
            subst e
            refine z_iload hc dX1_fitting_152 6 rfl ?_
            exact z_iret hc hr rfl dX1_fitting_154 (⟨by unfold ftM; rw [tn_nI (by omega), tn_nI (by omega), if_pos ⟨h2', by omega, h4⟩, ← hwt, hp], rfl⟩)
          · refine z_aload_n hc dX1_fitting_64 0 rfl rfl ?_
            refine z_mget hc 0 (by decide) q201 rfl dX1_fitting_65 ?_
            refine z_iload hc dX1_fitting_68 7 rfl ?_
            refine z_zald (q0 := 1) (N := 7) (f := S 1) hc rfl (show f < 7 by omega) (by decide) dX1_fitting_70 ?_
            refine z_if_eq hc 127 dX1_fitting_71 (by decide) (toInt_nI (by omega)) (fun h5 => ?_) (fun h5 => ?_)
            · refine z_iconst hc ((nI 0)) dX1_fitting_127 (by decide) ?_
              refine z_istore (lv' := [(0, .ref (q 0)), (1, .int (nI a)), (2, .int (nI i)), (3, .int (nI wt)), (4, .int (nI ((wt / 4) % 8))), (5, .int (nI ((wt / 32) % 8))), (6, .int (nI (ctP p f))), (7, .int (nI f)), (8, .int (nI 0))]) hc dX1_fitting_128 (by decide) rfl ?_
              refine z_iload hc dX1_fitting_130 8 rfl ?_
              have ml : mlP S wt f = false := Bool.eq_false_iff.mpr (fun hm => by unfold mlP at hm; simp only [Bool.and_eq_true, decide_eq_true_eq] at hm; omega)
              refine z_if_eq hc 142 dX1_fitting_132 (by decide) (toInt_nI (by omega)) (fun h12 => ?_) (fun h12 => ?_)
              · refine z_iload hc dX1_fitting_142 6 rfl ?_
                refine z_nat (b := ctP p (f + 1)) (ctP_0 (n := f) (by rw [hp]; exact ml)) ?_
                refine z_istore (lv' := [(0, .ref (q 0)), (1, .int (nI a)), (2, .int (nI i)), (3, .int (nI wt)), (4, .int (nI ((wt / 4) % 8))), (5, .int (nI ((wt / 32) % 8))), (6, .int (nI (ctP p (f + 1)))), (7, .int (nI f)), (8, .int (nI 0))]) hc dX1_fitting_144 (by decide) rfl ?_
                refine z_iinc (a := f) (lv' := [(0, .ref (q 0)), (1, .int (nI a)), (2, .int (nI i)), (3, .int (nI wt)), (4, .int (nI ((wt / 4) % 8))), (5, .int (nI ((wt / 32) % 8))), (6, .int (nI (ctP p (f + 1)))), (7, .int (nI (f + 1))), (8, .int (nI 0))]) hc dX1_fitting_146 7 rfl (by decide) rfl ?_
                refine z_goto hc 57 dX1_fitting_149 (by decide) ?_
                refine z_sub [0, 1, 2, 3, 4, 5, 6, 7] rfl ?_
                exact ih (by omega) () trivial
              · exfalso
                omega
            · refine z_aload_n hc dX1_fitting_74 0 rfl rfl ?_
              refine z_mget hc 1 (by decide) q202 rfl dX1_fitting_75 ?_
              refine z_iload hc dX1_fitting_78 7 rfl ?_
              refine z_iald (q0 := 2) (N := 7) (f := S 2) hc rfl (show f < 7 by omega) (by decide) dX1_fitting_80 ?_
              refine z_iload_n hc dX1_fitting_81 3 rfl rfl ?_
              refine z_iconst hc ((nI 3)) dX1_fitting_82 (by decide) ?_
              refine z_iandm hc 2 4 dX1_fitting_83 (by decide) (by decide) ?_
              refine z_icmp_ne hc 127 dX1_fitting_84 (by decide) (toInt_nI (by omega)) (toInt_nI (by omega)) (fun h6 => ?_) (fun h6 => ?_)
              · refine z_iconst hc ((nI 0)) dX1_fitting_127 (by decide) ?_
                refine z_istore (lv' := [(0, .ref (q 0)), (1, .int (nI a)), (2, .int (nI i)), (3, .int (nI wt)), (4, .int (nI ((wt / 4) % 8))), (5, .int (nI ((wt / 32) % 8))), (6, .int (nI (ctP p f))), (7, .int (nI f)), (8, .int (nI 0))]) hc dX1_fitting_128 (by decide) rfl ?_
                refine z_iload hc dX1_fitting_130 8 rfl ?_
                have ml : mlP S wt f = false := Bool.eq_false_iff.mpr (fun hm => by unfold mlP at hm; simp only [Bool.and_eq_true, decide_eq_true_eq] at hm; omega)
                refine z_if_eq hc 142 dX1_fitting_132 (by decide) (toInt_nI (by omega)) (fun h12 => ?_) (fun h12 => ?_)
                · refine z_iload hc dX1_fitting_142 6 rfl ?_
                  refine z_nat (b := ctP p (f + 1)) (ctP_0 (n := f) (by rw [hp]; exact ml)) ?_
                  refine z_istore (lv' := [(0, .ref (q 0)), (1, .int (nI a)), (2, .int (nI i)), (3, .int (nI wt)), (4, .int (nI ((wt / 4) % 8))), (5, .int (nI ((wt / 32) % 8))), (6, .int (nI (ctP p (f + 1)))), (7, .int (nI f)), (8, .int (nI 0))]) hc dX1_fitting_144 (by decide) rfl ?_
                  refine z_iinc (a := f) (lv' := [(0, .ref (q 0)), (1, .int (nI a)), (2, .int (nI i)), (3, .int (nI wt)), (4, .int (nI ((wt / 4) % 8))), (5, .int (nI ((wt / 32) % 8))), (6, .int (nI (ctP p (f + 1)))), (7, .int (nI (f + 1))), (8, .int (nI 0))]) hc dX1_fitting_146 7 rfl (by decide) rfl ?_
                  refine z_goto hc 57 dX1_fitting_149 (by decide) ?_
                  refine z_sub [0, 1, 2, 3, 4, 5, 6, 7] rfl ?_
                  exact ih (by omega) () trivial
                · exfalso
                  omega
              · refine z_iload hc dX1_fitting_87 4 rfl ?_
                refine z_iconst hc ((nI 3)) dX1_fitting_89 (by decide) ?_
                refine z_icmp_gt hc 105 dX1_fitting_90 (by decide) (toInt_nI (by omega)) (toInt_nI (by omega)) (fun h7 => ?_) (fun h7 => ?_)
                · refine z_iload hc dX1_fitting_105 5 rfl ?_
                  refine z_iconst hc ((nI 3)) dX1_fitting_107 (by decide) ?_
                  refine z_icmp_gt hc 123 dX1_fitting_108 (by decide) (toInt_nI (by omega)) (toInt_nI (by omega)) (fun h9 => ?_) (fun h9 => ?_)
                  · refine z_iconst hc ((nI 1)) dX1_fitting_123 (by decide) ?_
                    refine z_goto hc 128 dX1_fitting_124 (by decide) ?_
                    refine z_istore (lv' := [(0, .ref (q 0)), (1, .int (nI a)), (2, .int (nI i)), (3, .int (nI wt)), (4, .int (nI ((wt / 4) % 8))), (5, .int (nI ((wt / 32) % 8))), (6, .int (nI (ctP p f))), (7, .int (nI f)), (8, .int (nI 1))]) hc dX1_fitting_128 (by decide) rfl ?_
                    refine z_iload hc dX1_fitting_130 8 rfl ?_
                    have ml : mlP S wt f = true := by unfold mlP; rw [decide_eq_true (show ¬ S 1 f = 0 by omega), decide_eq_true (show S 2 f = wt % 4 by omega), decide_eq_true (show 3 < wt / 4 % 8 ∨ wt / 4 % 8 = S 3 f by omega), decide_eq_true (show 3 < wt / 32 % 8 ∨ wt / 32 % 8 = S 4 f by omega)]; rfl
                    refine z_if_eq hc 142 dX1_fitting_132 (by decide) (toInt_nI (by omega)) (fun h12 => ?_) (fun h12 => ?_)
                    · exfalso
                      omega
                    · refine z_iload hc dX1_fitting_135 6 rfl ?_
                      refine z_iconst hc ((nI 1)) dX1_fitting_137 (by decide) ?_
                      refine z_iadd (a := ctP p f) (b := 1) hc dX1_fitting_138 ?_
                      refine z_goto hc 144 dX1_fitting_139 (by decide) ?_
                      refine z_nat (b := ctP p (f + 1)) (ctP_1 (by rw [hp]; exact ml)) ?_
                      refine z_istore (lv' := [(0, .ref (q 0)), (1, .int (nI a)), (2, .int (nI i)), (3, .int (nI wt)), (4, .int (nI ((wt / 4) % 8))), (5, .int (nI ((wt / 32) % 8))), (6, .int (nI (ctP p (f + 1)))), (7, .int (nI f)), (8, .int (nI 1))]) hc dX1_fitting_144 (by decide) rfl ?_
                      refine z_iinc (a := f) (lv' := [(0, .ref (q 0)), (1, .int (nI a)), (2, .int (nI i)), (3, .int (nI wt)), (4, .int (nI ((wt / 4) % 8))), (5, .int (nI ((wt / 32) % 8))), (6, .int (nI (ctP p (f + 1)))), (7, .int (nI (f + 1))), (8, .int (nI 1))]) hc dX1_fitting_146 7 rfl (by decide) rfl ?_
                      refine z_goto hc 57 dX1_fitting_149 (by decide) ?_
                      refine z_sub [0, 1, 2, 3, 4, 5, 6, 7] rfl ?_
                      exact ih (by omega) () trivial
                  · refine z_iload hc dX1_fitting_111 5 rfl ?_
                    refine z_aload_n hc dX1_fitting_113 0 rfl rfl ?_
                    refine z_mget hc 3 (by decide) q204 rfl dX1_fitting_114 ?_
                    refine z_iload hc dX1_fitting_117 7 rfl ?_
                    refine z_iald (q0 := 4) (N := 7) (f := S 4) hc rfl (show f < 7 by omega) (by decide) dX1_fitting_119 ?_
                    refine z_icmp_ne hc 127 dX1_fitting_120 (by decide) (toInt_nI (by omega)) (toInt_nI (by omega)) (fun h10 => ?_) (fun h10 => ?_)
                    · refine z_iconst hc ((nI 0)) dX1_fitting_127 (by decide) ?_
                      refine z_istore (lv' := [(0, .ref (q 0)), (1, .int (nI a)), (2, .int (nI i)), (3, .int (nI wt)), (4, .int (nI ((wt / 4) % 8))), (5, .int (nI ((wt / 32) % 8))), (6, .int (nI (ctP p f))), (7, .int (nI f)), (8, .int (nI 0))]) hc dX1_fitting_128 (by decide) rfl ?_
                      refine z_iload hc dX1_fitting_130 8 rfl ?_
                      have ml : mlP S wt f = false := Bool.eq_false_iff.mpr (fun hm => by unfold mlP at hm; simp only [Bool.and_eq_true, decide_eq_true_eq] at hm; omega)
                      refine z_if_eq hc 142 dX1_fitting_132 (by decide) (toInt_nI (by omega)) (fun h12 => ?_) (fun h12 => ?_)
                      · refine z_iload hc dX1_fitting_142 6 rfl ?_
                        refine z_nat (b := ctP p (f + 1)) (ctP_0 (n := f) (by rw [hp]; exact ml)) ?_
                        refine z_istore (lv' := [(0, .ref (q 0)), (1, .int (nI a)), (2, .int (nI i)), (3, .int (nI wt)), (4, .int (nI ((wt / 4) % 8))), (5, .int (nI ((wt / 32) % 8))), (6, .int (nI (ctP p (f + 1)))), (7, .int (nI f)), (8, .int (nI 0))]) hc dX1_fitting_144 (by decide) rfl ?_
                        refine z_iinc (a := f) (lv' := [(0, .ref (q 0)), (1, .int (nI a)), (2, .int (nI i)), (3, .int (nI wt)), (4, .int (nI ((wt / 4) % 8))), (5, .int (nI ((wt / 32) % 8))), (6, .int (nI (ctP p (f + 1)))), (7, .int (nI (f + 1))), (8, .int (nI 0))]) hc dX1_fitting_146 7 rfl (by decide) rfl ?_
                        refine z_goto hc 57 dX1_fitting_149 (by decide) ?_
                        refine z_sub [0, 1, 2, 3, 4, 5, 6, 7] rfl ?_
                        exact ih (by omega) () trivial
                      · exfalso
                        omega
                    · refine z_iconst hc ((nI 1)) dX1_fitting_123 (by decide) ?_
                      refine z_goto hc 128 dX1_fitting_124 (by decide) ?_
                      refine z_istore (lv' := [(0, .ref (q 0)), (1, .int (nI a)), (2, .int (nI i)), (3, .int (nI wt)), (4, .int (nI ((wt / 4) % 8))), (5, .int (nI ((wt / 32) % 8))), (6, .int (nI (ctP p f))), (7, .int (nI f)), (8, .int (nI 1))]) hc dX1_fitting_128 (by decide) rfl ?_
                      refine z_iload hc dX1_fitting_130 8 rfl ?_
                      have ml : mlP S wt f = true := by unfold mlP; rw [decide_eq_true (show ¬ S 1 f = 0 by omega), decide_eq_true (show S 2 f = wt % 4 by omega), decide_eq_true (show 3 < wt / 4 % 8 ∨ wt / 4 % 8 = S 3 f by omega), decide_eq_true (show 3 < wt / 32 % 8 ∨ wt / 32 % 8 = S 4 f by omega)]; rfl
                      refine z_if_eq hc 142 dX1_fitting_132 (by decide) (toInt_nI (by omega)) (fun h12 => ?_) (fun h12 => ?_)
                      · exfalso
                        omega
                      · refine z_iload hc dX1_fitting_135 6 rfl ?_
                        refine z_iconst hc ((nI 1)) dX1_fitting_137 (by decide) ?_
                        refine z_iadd (a := ctP p f) (b := 1) hc dX1_fitting_138 ?_
                        refine z_goto hc 144 dX1_fitting_139 (by decide) ?_
                        refine z_nat (b := ctP p (f + 1)) (ctP_1 (by rw [hp]; exact ml)) ?_
                        refine z_istore (lv' := [(0, .ref (q 0)), (1, .int (nI a)), (2, .int (nI i)), (3, .int (nI wt)), (4, .int (nI ((wt / 4) % 8))), (5, .int (nI ((wt / 32) % 8))), (6, .int (nI (ctP p (f + 1)))), (7, .int (nI f)), (8, .int (nI 1))]) hc dX1_fitting_144 (by decide) rfl ?_
                        refine z_iinc (a := f) (lv' := [(0, .ref (q 0)), (1, .int (nI a)), (2, .int (nI i)), (3, .int (nI wt)), (4, .int (nI ((wt / 4) % 8))), (5, .int (nI ((wt / 32) % 8))), (6, .int (nI (ctP p (f + 1)))), (7, .int (nI (f + 1))), (8, .int (nI 1))]) hc dX1_fitting_146 7 rfl (by decide) rfl ?_
                        refine z_goto hc 57 dX1_fitting_149 (by decide) ?_
                        refine z_sub [0, 1, 2, 3, 4, 5, 6, 7] rfl ?_
                        exact ih (by omega) () trivial
                · refine z_iload hc dX1_fitting_93 4 rfl ?_
                  refine z_aload_n hc dX1_fitting_95 0 rfl rfl ?_
                  refine z_mget hc 2 (by decide) q203 rfl dX1_fitting_96 ?_
                  refine z_iload hc dX1_fitting_99 7 rfl ?_
                  refine z_iald (q0 := 3) (N := 7) (f := S 3) hc rfl (show f < 7 by omega) (by decide) dX1_fitting_101 ?_
                  refine z_icmp_ne hc 127 dX1_fitting_102 (by decide) (toInt_nI (by omega)) (toInt_nI (by omega)) (fun h8 => ?_) (fun h8 => ?_)
                  · refine z_iconst hc ((nI 0)) dX1_fitting_127 (by decide) ?_
                    refine z_istore (lv' := [(0, .ref (q 0)), (1, .int (nI a)), (2, .int (nI i)), (3, .int (nI wt)), (4, .int (nI ((wt / 4) % 8))), (5, .int (nI ((wt / 32) % 8))), (6, .int (nI (ctP p f))), (7, .int (nI f)), (8, .int (nI 0))]) hc dX1_fitting_128 (by decide) rfl ?_
                    refine z_iload hc dX1_fitting_130 8 rfl ?_
                    have ml : mlP S wt f = false := Bool.eq_false_iff.mpr (fun hm => by unfold mlP at hm; simp only [Bool.and_eq_true, decide_eq_true_eq] at hm; omega)
                    refine z_if_eq hc 142 dX1_fitting_132 (by decide) (toInt_nI (by omega)) (fun h12 => ?_) (fun h12 => ?_)
                    · refine z_iload hc dX1_fitting_142 6 rfl ?_
                      refine z_nat (b := ctP p (f + 1)) (ctP_0 (n := f) (by rw [hp]; exact ml)) ?_
                      refine z_istore (lv' := [(0, .ref (q 0)), (1, .int (nI a)), (2, .int (nI i)), (3, .int (nI wt)), (4, .int (nI ((wt / 4) % 8))), (5, .int (nI ((wt / 32) % 8))), (6, .int (nI (ctP p (f + 1)))), (7, .int (nI f)), (8, .int (nI 0))]) hc dX1_fitting_144 (by decide) rfl ?_
                      refine z_iinc (a := f) (lv' := [(0, .ref (q 0)), (1, .int (nI a)), (2, .int (nI i)), (3, .int (nI wt)), (4, .int (nI ((wt / 4) % 8))), (5, .int (nI ((wt / 32) % 8))), (6, .int (nI (ctP p (f + 1)))), (7, .int (nI (f + 1))), (8, .int (nI 0))]) hc dX1_fitting_146 7 rfl (by decide) rfl ?_
                      refine z_goto hc 57 dX1_fitting_149 (by decide) ?_
                      refine z_sub [0, 1, 2, 3, 4, 5, 6, 7] rfl ?_
                      exact ih (by omega) () trivial
                    · exfalso
                      omega
                  · refine z_iload hc dX1_fitting_105 5 rfl ?_
                    refine z_iconst hc ((nI 3)) dX1_fitting_107 (by decide) ?_
                    refine z_icmp_gt hc 123 dX1_fitting_108 (by decide) (toInt_nI (by omega)) (toInt_nI (by omega)) (fun h9 => ?_) (fun h9 => ?_)
                    · refine z_iconst hc ((nI 1)) dX1_fitting_123 (by decide) ?_
                      refine z_goto hc 128 dX1_fitting_124 (by decide) ?_
                      refine z_istore (lv' := [(0, .ref (q 0)), (1, .int (nI a)), (2, .int (nI i)), (3, .int (nI wt)), (4, .int (nI ((wt / 4) % 8))), (5, .int (nI ((wt / 32) % 8))), (6, .int (nI (ctP p f))), (7, .int (nI f)), (8, .int (nI 1))]) hc dX1_fitting_128 (by decide) rfl ?_
                      refine z_iload hc dX1_fitting_130 8 rfl ?_
                      have ml : mlP S wt f = true := by unfold mlP; rw [decide_eq_true (show ¬ S 1 f = 0 by omega), decide_eq_true (show S 2 f = wt % 4 by omega), decide_eq_true (show 3 < wt / 4 % 8 ∨ wt / 4 % 8 = S 3 f by omega), decide_eq_true (show 3 < wt / 32 % 8 ∨ wt / 32 % 8 = S 4 f by omega)]; rfl
                      refine z_if_eq hc 142 dX1_fitting_132 (by decide) (toInt_nI (by omega)) (fun h12 => ?_) (fun h12 => ?_)
                      · exfalso
                        omega
                      · refine z_iload hc dX1_fitting_135 6 rfl ?_
                        refine z_iconst hc ((nI 1)) dX1_fitting_137 (by decide) ?_
                        refine z_iadd (a := ctP p f) (b := 1) hc dX1_fitting_138 ?_
                        refine z_goto hc 144 dX1_fitting_139 (by decide) ?_
                        refine z_nat (b := ctP p (f + 1)) (ctP_1 (by rw [hp]; exact ml)) ?_
                        refine z_istore (lv' := [(0, .ref (q 0)), (1, .int (nI a)), (2, .int (nI i)), (3, .int (nI wt)), (4, .int (nI ((wt / 4) % 8))), (5, .int (nI ((wt / 32) % 8))), (6, .int (nI (ctP p (f + 1)))), (7, .int (nI f)), (8, .int (nI 1))]) hc dX1_fitting_144 (by decide) rfl ?_
                        refine z_iinc (a := f) (lv' := [(0, .ref (q 0)), (1, .int (nI a)), (2, .int (nI i)), (3, .int (nI wt)), (4, .int (nI ((wt / 4) % 8))), (5, .int (nI ((wt / 32) % 8))), (6, .int (nI (ctP p (f + 1)))), (7, .int (nI (f + 1))), (8, .int (nI 1))]) hc dX1_fitting_146 7 rfl (by decide) rfl ?_
                        refine z_goto hc 57 dX1_fitting_149 (by decide) ?_
                        refine z_sub [0, 1, 2, 3, 4, 5, 6, 7] rfl ?_
                        exact ih (by omega) () trivial
                    · refine z_iload hc dX1_fitting_111 5 rfl ?_
                      refine z_aload_n hc dX1_fitting_113 0 rfl rfl ?_
                      refine z_mget hc 3 (by decide) q204 rfl dX1_fitting_114 ?_
                      refine z_iload hc dX1_fitting_117 7 rfl ?_
                      refine z_iald (q0 := 4) (N := 7) (f := S 4) hc rfl (show f < 7 by omega) (by decide) dX1_fitting_119 ?_
                      refine z_icmp_ne hc 127 dX1_fitting_120 (by decide) (toInt_nI (by omega)) (toInt_nI (by omega)) (fun h10 => ?_) (fun h10 => ?_)
                      · refine z_iconst hc ((nI 0)) dX1_fitting_127 (by decide) ?_
                        refine z_istore (lv' := [(0, .ref (q 0)), (1, .int (nI a)), (2, .int (nI i)), (3, .int (nI wt)), (4, .int (nI ((wt / 4) % 8))), (5, .int (nI ((wt / 32) % 8))), (6, .int (nI (ctP p f))), (7, .int (nI f)), (8, .int (nI 0))]) hc dX1_fitting_128 (by decide) rfl ?_
                        refine z_iload hc dX1_fitting_130 8 rfl ?_
                        have ml : mlP S wt f = false := Bool.eq_false_iff.mpr (fun hm => by unfold mlP at hm; simp only [Bool.and_eq_true, decide_eq_true_eq] at hm; omega)
                        refine z_if_eq hc 142 dX1_fitting_132 (by decide) (toInt_nI (by omega)) (fun h12 => ?_) (fun h12 => ?_)
                        · refine z_iload hc dX1_fitting_142 6 rfl ?_
                          refine z_nat (b := ctP p (f + 1)) (ctP_0 (n := f) (by rw [hp]; exact ml)) ?_
                          refine z_istore (lv' := [(0, .ref (q 0)), (1, .int (nI a)), (2, .int (nI i)), (3, .int (nI wt)), (4, .int (nI ((wt / 4) % 8))), (5, .int (nI ((wt / 32) % 8))), (6, .int (nI (ctP p (f + 1)))), (7, .int (nI f)), (8, .int (nI 0))]) hc dX1_fitting_144 (by decide) rfl ?_
                          refine z_iinc (a := f) (lv' := [(0, .ref (q 0)), (1, .int (nI a)), (2, .int (nI i)), (3, .int (nI wt)), (4, .int (nI ((wt / 4) % 8))), (5, .int (nI ((wt / 32) % 8))), (6, .int (nI (ctP p (f + 1)))), (7, .int (nI (f + 1))), (8, .int (nI 0))]) hc dX1_fitting_146 7 rfl (by decide) rfl ?_
                          refine z_goto hc 57 dX1_fitting_149 (by decide) ?_
                          refine z_sub [0, 1, 2, 3, 4, 5, 6, 7] rfl ?_
                          exact ih (by omega) () trivial
                        · exfalso
                          omega
                      · refine z_iconst hc ((nI 1)) dX1_fitting_123 (by decide) ?_
                        refine z_goto hc 128 dX1_fitting_124 (by decide) ?_
                        refine z_istore (lv' := [(0, .ref (q 0)), (1, .int (nI a)), (2, .int (nI i)), (3, .int (nI wt)), (4, .int (nI ((wt / 4) % 8))), (5, .int (nI ((wt / 32) % 8))), (6, .int (nI (ctP p f))), (7, .int (nI f)), (8, .int (nI 1))]) hc dX1_fitting_128 (by decide) rfl ?_
                        refine z_iload hc dX1_fitting_130 8 rfl ?_
                        have ml : mlP S wt f = true := by unfold mlP; rw [decide_eq_true (show ¬ S 1 f = 0 by omega), decide_eq_true (show S 2 f = wt % 4 by omega), decide_eq_true (show 3 < wt / 4 % 8 ∨ wt / 4 % 8 = S 3 f by omega), decide_eq_true (show 3 < wt / 32 % 8 ∨ wt / 32 % 8 = S 4 f by omega)]; rfl
                        refine z_if_eq hc 142 dX1_fitting_132 (by decide) (toInt_nI (by omega)) (fun h12 => ?_) (fun h12 => ?_)
                        · exfalso
                          omega
                        · refine z_iload hc dX1_fitting_135 6 rfl ?_
                          refine z_iconst hc ((nI 1)) dX1_fitting_137 (by decide) ?_
                          refine z_iadd (a := ctP p f) (b := 1) hc dX1_fitting_138 ?_
                          refine z_goto hc 144 dX1_fitting_139 (by decide) ?_
                          refine z_nat (b := ctP p (f + 1)) (ctP_1 (by rw [hp]; exact ml)) ?_
                          refine z_istore (lv' := [(0, .ref (q 0)), (1, .int (nI a)), (2, .int (nI i)), (3, .int (nI wt)), (4, .int (nI ((wt / 4) % 8))), (5, .int (nI ((wt / 32) % 8))), (6, .int (nI (ctP p (f + 1)))), (7, .int (nI f)), (8, .int (nI 1))]) hc dX1_fitting_144 (by decide) rfl ?_
                          refine z_iinc (a := f) (lv' := [(0, .ref (q 0)), (1, .int (nI a)), (2, .int (nI i)), (3, .int (nI wt)), (4, .int (nI ((wt / 4) % 8))), (5, .int (nI ((wt / 32) % 8))), (6, .int (nI (ctP p (f + 1)))), (7, .int (nI (f + 1))), (8, .int (nI 1))]) hc dX1_fitting_146 7 rfl (by decide) rfl ?_
                          refine z_goto hc 57 dX1_fitting_149 (by decide) ?_
                          refine z_sub [0, 1, 2, 3, 4, 5, 6, 7] rfl ?_
                          exact ih (by omega) () trivial
        exact L 0 () (by decide) trivial
      · refine z_iconst hc ((-1)) dX1_fitting_22 (by decide) ?_
        exact z_iret hc hr rfl dX1_fitting_23 (⟨by unfold ftM; rw [tn_nI (by omega), if_neg (fun h => h4 h.2.2)], rfl⟩)
theorem m_partial (l : Launch) (K : zK) (q : Nat → Nat) (S : ES) (x y : Int32) (k1 : mOK S) : zMi l yX1_partial cX1_partial 3 (some .int) (rmH 5) K (mW K q) S [.ref (q 0), .int x, .int y] (fun r S' => r = paM S x y ∧ eqm S S' ∧ mOK S') := by
  refine z_entryI RX1 (by decide) rfl (Nat.le_of_ble_eq_true rfl) (lv := [(0, .ref (q 0)), (1, .int x), (2, .int y)]) rfl (fun X hK hl hc hr => ?_)
  subst hK; subst hl
  refine z_aload_n hc dX1_partial_0 0 rfl rfl ?_
  refine z_iload_n hc dX1_partial_1 1 rfl rfl ?_
  refine z_callVi (ci := 1) (q0 := 0) (As := [.int x]) (rest := []) hc (m_rule _ _ q S x) gX1_rule aX1_rule (by decide) rfl rfl rfl rfl (Nat.le_of_ble_eq_true rfl) dX1_partial_2 (fun rx Sx h1 => ?_)
  rw [h1.1, h1.2]
  refine z_ifeqB hc 31 dX1_partial_5 (by decide) (fun h2 => ?_) (fun h2 => ?_)
  · refine z_iconst hc ((-1)) dX1_partial_31 (by decide) ?_
    exact z_iret hc hr rfl dX1_partial_32 (⟨by unfold paM; rw [if_neg (by rw [h2]; exact fun h => absurd h.1 (by decide))], eqm.rf, k1⟩)
  · have h2' := h2
    obtain ⟨a, ka, rfl⟩ : ∃ a : Nat, a < 3 ∧ x = nI a := by unfold isR at h2; have h2 := of_decide_eq_true h2; exact nI_ex h2.1 h2.2
    have b5 : S 5 a < 4 := k1 5 a
    refine z_iload_n hc dX1_partial_8 2 rfl rfl ?_
    refine z_if_lt hc 31 dX1_partial_9 (by decide) rfl (fun h3 => ?_) (fun h3 => ?_)
    · refine z_iconst hc ((-1)) dX1_partial_31 (by decide) ?_
      exact z_iret hc hr rfl dX1_partial_32 (⟨by unfold paM; rw [if_neg (fun h => by have := h.2.1; omega)], eqm.rf, k1⟩)
    · refine z_iload_n hc dX1_partial_12 2 rfl rfl ?_
      refine z_aload_n hc dX1_partial_13 0 rfl rfl ?_
      refine z_mget hc 4 (by decide) q205 rfl dX1_partial_14 ?_
      refine z_iload_n hc dX1_partial_17 1 rfl rfl ?_
      refine z_iald (q0 := 5) (N := 3) (f := S 5) hc rfl (show a < 3 by omega) (by decide) dX1_partial_18 ?_
      refine z_icmp_gt hc 31 dX1_partial_19 (by decide) rfl (toInt_nI (by omega)) (fun h4 => ?_) (fun h4 => ?_)
      · refine z_iconst hc ((-1)) dX1_partial_31 (by decide) ?_
        exact z_iret hc hr rfl dX1_partial_32 (⟨by unfold paM; rw [tn_nI (by omega), if_neg (fun h => absurd h.2.2 (by omega))], eqm.rf, k1⟩)
      · obtain ⟨i, ki, rfl⟩ := nI_ex (x := y) (n := S 5 a + 1) (by omega) (by omega)
        refine z_aload_n hc dX1_partial_22 0 rfl rfl ?_
        refine z_iload_n hc dX1_partial_23 1 rfl rfl ?_
        refine z_iload_n hc dX1_partial_24 2 rfl rfl ?_
        refine z_callVi (ci := 1) (q0 := 0) (As := [.int (nI a), .int (nI i)]) (rest := []) hc (m_count _ _ q S a i k1 ka (by omega)) gX1_count aX1_count (by decide) rfl rfl rfl rfl (Nat.le_of_ble_eq_true rfl) dX1_partial_25 (fun rx S1 h5 => ?_)
        rw [h5.1]
        refine z_goto hc 32 dX1_partial_28 (by decide) ?_
        exact z_iret hc hr rfl dX1_partial_32 (⟨by unfold paM; rw [tn_nI (by omega), tn_nI (by omega), if_pos ⟨h2', by omega, by omega⟩], h5.2⟩)
theorem rdP_lt (b : Nat → Bool) : ∀ n, rdP b n < 2 ^ n
  | 0 => Nat.one_pos
  | n + 1 => by
    have h := rdP_lt b n
    have h2 : 2 ^ n < 2 ^ (n + 1) := wb_lt2 (by omega)
    unfold rdP
    split
    · exact Nat.or_lt_two_pow (Nat.lt_trans h h2) h2
    · exact Nat.lt_trans h h2
theorem fcM_lt (T : ES) : fcM T < 2 ^ 31 := Nat.lt_trans (rdP_lt _ 7) (by decide)
theorem m_effect (l : Launch) (K : zK) (q : Nat → Nat) (S : ES) (x y z w : Int32) (k1 : mOK S) : zMi l yX1_effect cX1_effect 8 (some .int) (rmH 6) K (mW K q) S [.ref (q 0), .int x, .int y, .int z, .int w] (fun r S' => meR S x y z w r S' ∧ mOK S') := by
  refine z_entryI RX1 (by decide) rfl (Nat.le_of_ble_eq_true rfl) (lv := [(0, .ref (q 0)), (1, .int x), (2, .int y), (3, .int z), (4, .int w)]) rfl (fun X hK hl hc hr => ?_)
  subst hK; subst hl
  refine z_aload_n hc dX1_effect_0 0 rfl rfl ?_
  refine z_iload_n hc dX1_effect_1 1 rfl rfl ?_
  refine z_callVi (ci := 1) (q0 := 0) (As := [.int x]) (rest := []) hc (m_rule _ _ q S x) gX1_rule aX1_rule (by decide) rfl rfl rfl rfl (Nat.le_of_ble_eq_true rfl) dX1_effect_2 (fun rx Sx h1 => ?_)
  rw [h1.1, h1.2]
  refine z_ifeqB hc 28 dX1_effect_5 (by decide) (fun h2 => ?_) (fun h2 => ?_)
  · refine z_sipush hc ((-1000)) dX1_effect_28 (by decide) ?_
    exact z_iret hc hr rfl dX1_effect_31 (⟨Or.inl ⟨Or.inl h2, rfl, rfl⟩, k1⟩)
  · refine z_aload_n hc dX1_effect_8 0 rfl rfl ?_
    refine z_iload_n hc dX1_effect_9 2 rfl rfl ?_
    refine z_iload_n hc dX1_effect_10 3 rfl rfl ?_
    refine z_iload hc dX1_effect_11 4 rfl ?_
    refine z_callVi (ci := 1) (q0 := 0) (As := [.int y, .int z, .int w]) (rest := []) hc (m_fact _ _ q S y z w) gX1_fact aX1_fact (by decide) rfl rfl rfl rfl (Nat.le_of_ble_eq_true rfl) dX1_effect_13 (fun rx Sx h3 => ?_)
    rw [h3.1, h3.2]
    refine z_ifeqB hc 28 dX1_effect_16 (by decide) (fun h4 => ?_) (fun h4 => ?_)
    · refine z_sipush hc ((-1000)) dX1_effect_28 (by decide) ?_
      exact z_iret hc hr rfl dX1_effect_31 (⟨Or.inl ⟨Or.inr (Or.inl h4), rfl, rfl⟩, k1⟩)
    · refine z_aload_n hc dX1_effect_19 0 rfl rfl ?_
      refine z_callVi (ci := 1) (q0 := 0) (As := []) (rest := []) hc (m_facts _ _ q S k1) gX1_facts aX1_facts (by decide) rfl rfl rfl rfl (Nat.le_of_ble_eq_true rfl) dX1_effect_20 (fun rx Sx h10 => ?_)
      rw [h10.1, h10.2]
      have f1 : fcM S < 2 ^ 31 := fcM_lt S
      refine z_bipush hc ((nI 127)) dX1_effect_23 (by decide) ?_
      refine z_icmp_ne hc 32 dX1_effect_25 (by decide) (toInt_nI (by omega)) (toInt_nI (by omega)) (fun h5 => ?_) (fun h5 => ?_)
      · refine z_aload_n hc dX1_effect_32 0 rfl rfl ?_
        refine z_iload_n hc dX1_effect_33 1 rfl rfl ?_
        refine z_callVi (ci := 1) (q0 := 0) (As := [.int x]) (rest := []) hc (m_matches _ _ q S x k1) gX1_matches aX1_matches (by decide) rfl rfl rfl rfl (Nat.le_of_ble_eq_true rfl) dX1_effect_34 (fun rx S1 h6 => ?_)
        rw [h6.1]
        refine z_istore (lv' := [(0, .ref (q 0)), (1, .int x), (2, .int y), (3, .int z), (4, .int w), (5, .int (mtM S x))]) hc dX1_effect_37 (by decide) rfl ?_
        refine z_aload_n hc dX1_effect_39 0 rfl rfl ?_
        refine z_iload_n hc dX1_effect_40 2 rfl rfl ?_
        refine z_iload_n hc dX1_effect_41 3 rfl rfl ?_
        refine z_iload hc dX1_effect_42 4 rfl ?_
        refine z_callVi (ci := 1) (q0 := 0) (As := [.int y, .int z, .int w]) (rest := []) hc (m_add _ _ q S1 y z w h6.2.2) gX1_add aX1_add (by decide) rfl rfl rfl rfl (Nat.le_of_ble_eq_true rfl) dX1_effect_44 (fun f S2 h7 => ?_)
        refine z_istore (lv' := [(0, .ref (q 0)), (1, .int x), (2, .int y), (3, .int z), (4, .int w), (5, .int (mtM S x)), (6, .int f)]) hc dX1_effect_47 (by decide) rfl ?_
        refine z_aload_n hc dX1_effect_49 0 rfl rfl ?_
        refine z_iload_n hc dX1_effect_50 1 rfl rfl ?_
        refine z_callVi (ci := 1) (q0 := 0) (As := [.int x]) (rest := []) hc (m_matches _ _ q S2 x h7.2) gX1_matches aX1_matches (by decide) rfl rfl rfl rfl (Nat.le_of_ble_eq_true rfl) dX1_effect_51 (fun rx S3 h8 => ?_)
        rw [h8.1]
        refine z_istore (lv' := [(0, .ref (q 0)), (1, .int x), (2, .int y), (3, .int z), (4, .int w), (5, .int (mtM S x)), (6, .int f), (7, .int (mtM S2 x))]) hc dX1_effect_54 (by decide) rfl ?_
        refine z_aload_n hc dX1_effect_56 0 rfl rfl ?_
        refine z_iload hc dX1_effect_57 6 rfl ?_
        refine z_callVi (ci := 1) (q0 := 0) (As := [.int f]) (rest := []) hc (m_remove _ _ q S3 f h8.2.2) gX1_remove aX1_remove (by decide) rfl rfl rfl rfl (Nat.le_of_ble_eq_true rfl) dX1_effect_59 (fun r2 S4 h9 => ?_)
        refine z_pop hc dX1_effect_62 rfl ?_
        refine z_iload hc dX1_effect_63 7 rfl ?_
        refine z_iload hc dX1_effect_65 5 rfl ?_
        refine z_isubR hc (mtM S2 x - mtM S x) dX1_effect_67 rfl ?_
        exact z_iret hc hr rfl dX1_effect_68 (⟨Or.inr ⟨h2, h4, by omega, S1, S2, S3, f, r2, h6.2.1, h7.1, h8.2.1, h9.1, rfl⟩, h9.2⟩)
      · refine z_sipush hc ((-1000)) dX1_effect_28 (by decide) ?_
        exact z_iret hc hr rfl dX1_effect_31 (⟨Or.inl ⟨Or.inr (Or.inr (by omega)), rfl, rfl⟩, k1⟩)
end
section
/-! THE PLAIN LAW, I: an update leaves in the words of a rule just its matches. No program here -/
set_option maxRecDepth 100000
/-- whether fact g (7: none) goes on from a match of the first L conditions that binds e -/
def extB (S : ES) (r L : Nat) (e : E3) (g : Nat) : Bool := if S 8 (r * 3 + L) = 0 then !(decide (g = 7)) && (hsN S g && (fiP S e (r * 3 + L) g).1) else decide (g = 7) && !(anP S e (r * 3 + L) 7)
def envB (S : ES) (r L : Nat) (e : E3) (g : Nat) : E3 := if S 8 (r * 3 + L) = 0 then (fiP S e (r * 3 + L) g).2 else e
/-- whether a code is a match of the first conditions of rule r; what it binds -/
def mtP (S : ES) (r code : Nat) : Nat → Bool × E3
  | 0 => (true, (4, 4, 4))
  | i + 1 => ((mtP S r code i).1 && extB S r i (mtP S r code i).2 (dig code i), envB S r i (mtP S r code i).2 (dig code i))
theorem bn_mt {S : ES} {r code : Nat} : ∀ {i : Nat}, (mtP S r code i).1 = true → bnP S r code i = (mtP S r code i).2
  | 0, _ => rfl
  | i + 1, h => by
    have h : ((mtP S r code i).1 && extB S r i (mtP S r code i).2 (dig code i)) = true := h
    obtain ⟨h1, h2⟩ := Bool.and_eq_true_iff.mp h
    have ih := bn_mt h1
    show (if dig code i = 7 then bnP S r code i else if (fiP S (bnP S r code i) (r * 3 + i) (dig code i)).1 = true then (fiP S (bnP S r code i) (r * 3 + i) (dig code i)).2 else bnP S r code i) = envB S r i (mtP S r code i).2 (dig code i)
    rw [ih]
    unfold extB at h2
    unfold envB
    by_cases n8 : S 8 (r * 3 + i) = 0
    · rw [if_pos n8] at h2 ⊢
      simp only [Bool.and_eq_true, Bool.not_eq_true', decide_eq_false_iff_not] at h2
      rw [if_neg h2.1, if_pos h2.2.2]
    · rw [if_neg n8] at h2 ⊢
      simp only [Bool.and_eq_true, decide_eq_true_eq] at h2
      rw [if_pos h2.1]
theorem mt_dig {S : ES} {r c c' : Nat} : ∀ {n : Nat}, (∀ i, i < n → dig c i = dig c' i) → mtP S r c n = mtP S r c' n
  | 0, _ => rfl
  | n + 1, h => by
    have ih := mt_dig (S := S) (r := r) (n := n) (fun i hi => h i (by omega))
    unfold mtP
    rw [ih, h n (by omega)]
theorem dig_nx {L c g i : Nat} (hL : L < 3) (hc : c < 8 ^ L) (hi : i < L) : dig (nxc c L g) i = dig c i := by
  rw [nxc_add hc]
  unfold dig
  rcases (show L = 0 ∨ L = 1 ∨ L = 2 by omega) with rfl | rfl | rfl
  · omega
  · have : i = 0 := by omega
    subst this
    simp only [Nat.pow_zero, Nat.pow_one, Nat.div_one]
    omega
  · rcases (show i = 0 ∨ i = 1 by omega) with rfl | rfl
    · simp only [Nat.pow_zero, Nat.div_one]
      omega
    · simp only [Nat.pow_one]
      omega
theorem nx_div {L c g : Nat} (hc : c < 8 ^ L) : nxc c L g / 8 ^ L = g := by
  rw [nxc_add hc, Nat.add_mul_div_right _ _ (Nat.pow_pos (by decide)), Nat.div_eq_of_lt hc, Nat.zero_add]
theorem nx_mod {L c g : Nat} (hc : c < 8 ^ L) : nxc c L g % 8 ^ L = c := by
  rw [nxc_add hc, Nat.add_mul_mod_self_right, Nat.mod_eq_of_lt hc]
theorem dig_top {L c g : Nat} (hc : c < 8 ^ L) (hg : g < 8) : dig (nxc c L g) L = g := by
  unfold dig
  rw [nx_div hc, Nat.mod_eq_of_lt hg]
theorem nx_dec {L c : Nat} (hc : c < 8 ^ (L + 1)) : c = nxc (c % 8 ^ L) L (c / 8 ^ L) ∧ c / 8 ^ L < 8 ∧ c % 8 ^ L < 8 ^ L := by
  have hp : 0 < 8 ^ L := Nat.pow_pos (by decide)
  have h1 : c % 8 ^ L < 8 ^ L := Nat.mod_lt _ hp
  refine ⟨?_, ?_, h1⟩
  · rw [nxc_add h1, Nat.mul_comm, Nat.mod_add_div]
  · rw [p8_s, Nat.mul_comm] at hc
    exact Nat.div_lt_of_lt_mul hc
theorem mt_nx {S : ES} {r L c g : Nat} (hL : L < 3) (hc : c < 8 ^ L) (hg : g < 8) : (mtP S r (nxc c L g) (L + 1)).1 = ((mtP S r c L).1 && extB S r L (mtP S r c L).2 g) := by
  show ((mtP S r (nxc c L g) L).1 && extB S r L (mtP S r (nxc c L g) L).2 (dig (nxc c L g) L)) = _
  rw [mt_dig (c := nxc c L g) (c' := c) (fun i hi => dig_nx hL hc hi), dig_top hc hg]
/-- the words' bits behind a put -/
theorem bit_put {W : Nat → Nat} {r L1 c1 L2 c2 : Nat} (h1 : L1 ≤ 3) (k1 : c1 < 8 ^ L1) (h2 : L2 ≤ 3) (k2 : c2 < 8 ^ L2) : bitW (putW W r L1 c1) r L2 c2 = true ↔ bitW W r L2 c2 = true ∨ (L2 = L1 ∧ c2 = c1) := by
  have key : wix r L2 c2 = wix r L1 c1 → (c1 % 64 = c2 % 64 ↔ (L2 = L1 ∧ c2 = c1)) := by
    unfold wix
    intro e
    rcases (show L1 = 0 ∨ L1 = 1 ∨ L1 = 2 ∨ L1 = 3 by omega) with rfl | rfl | rfl | rfl <;> rcases (show L2 = 0 ∨ L2 = 1 ∨ L2 = 2 ∨ L2 = 3 by omega) with rfl | rfl | rfl | rfl <;> simp only [Nat.reducePow] at k1 k2 <;> omega
  unfold bitW putW
  by_cases e : wix r L2 c2 = wix r L1 c1
  · rw [e, updN_s, Nat.testBit_or, Nat.testBit_two_pow, Bool.or_eq_true, decide_eq_true_eq, key e]
  · rw [updN_n e]
    exact ⟨Or.inl, fun h => h.elim id (fun h => absurd (by rw [h.1, h.2]) e)⟩
theorem put_out {W : Nat → Nat} {r L c j : Nat} (h : L ≤ 3) (k : c < 8 ^ L) (hj : ¬ (r * 11 ≤ j ∧ j < r * 11 + 11)) : putW W r L c j = W j := by
  unfold putW
  exact updN_n (fun e => hj (by rw [e]; exact wix_r h k))
theorem an_ex {S : ES} {e : E3} {cell : Nat} : ∀ {n : Nat}, anP S e cell n = true ↔ ∃ g, g < n ∧ hsN S g = true ∧ (fiP S e cell g).1 = true
  | 0 => ⟨fun h => absurd (show false = true from h) (by decide), fun ⟨g, h, _⟩ => absurd h (Nat.not_lt_zero g)⟩
  | n + 1 => by
    unfold anP
    rw [Bool.or_eq_true, an_ex (n := n), Bool.and_eq_true]
    constructor
    · rintro (⟨g, h1, h2⟩ | h)
      · exact ⟨g, by omega, h2⟩
      · exact ⟨n, by omega, h⟩
    · rintro ⟨g, h1, h2⟩
      by_cases e : g = n
      · right; rw [← e]; exact h2
      · left; exact ⟨g, by omega, h2⟩
/-- the state before fact k was added or taken away -/
def oldR (S S0 : ES) (k : Nat) (added : Bool) : Prop := (∀ i, 4 ≤ i → i < 9 → S0 i = S i) ∧ (∀ g, g ≠ k → hsN S0 g = hsN S g ∧ S0 1 g = S 1 g ∧ S0 2 g = S 2 g ∧ S0 3 g = S 3 g) ∧ hsN S0 k = !added ∧ hsN S k = added ∧ (added = false → S0 1 k = S 1 k ∧ S0 2 k = S 2 k ∧ S0 3 k = S 3 k)
theorem fi_of {S S0 : ES} {cell g : Nat} (h : ∀ i, 4 ≤ i → i < 9 → S0 i = S i) (hg : S0 1 g = S 1 g ∧ S0 2 g = S 2 g ∧ S0 3 g = S 3 g) (e : E3) : fiP S0 e cell g = fiP S e cell g := by
  unfold fiP
  rw [h 5 (by decide) (by decide), h 6 (by decide) (by decide), h 7 (by decide) (by decide), hg.1, hg.2.1, hg.2.2]
theorem old_ne {S S0 : ES} {k g : Nat} {added : Bool} (h : oldR S S0 k added) (h1 : hsN S0 g = true) (h2 : hsN S g = true) : g ≠ k := by
  intro e
  subst e
  rw [h.2.2.1] at h1
  rw [h.2.2.2.1] at h2
  rw [h2] at h1
  cases h1
theorem env_eq {S S0 : ES} {k : Nat} {added : Bool} (h : oldR S S0 k added) {r c : Nat} : ∀ {L : Nat}, (mtP S0 r c L).1 = true → (mtP S r c L).1 = true → (mtP S0 r c L).2 = (mtP S r c L).2
  | 0, _, _ => rfl
  | L + 1, a, b => by
    have a : ((mtP S0 r c L).1 && extB S0 r L (mtP S0 r c L).2 (dig c L)) = true := a
    have b : ((mtP S r c L).1 && extB S r L (mtP S r c L).2 (dig c L)) = true := b
    obtain ⟨a1, a2⟩ := Bool.and_eq_true_iff.mp a
    obtain ⟨b1, b2⟩ := Bool.and_eq_true_iff.mp b
    have ih := env_eq h a1 b1
    show envB S0 r L (mtP S0 r c L).2 (dig c L) = envB S r L (mtP S r c L).2 (dig c L)
    rw [ih]
    rw [ih] at a2
    have e8 : S0 8 = S 8 := h.1 8 (by decide) (by decide)
    unfold extB at a2 b2
    unfold envB
    rw [e8] at a2 ⊢
    by_cases n8 : S 8 (r * 3 + L) = 0
    · rw [if_pos n8] at a2 b2 ⊢
      rw [if_pos n8]
      simp only [Bool.and_eq_true] at a2 b2
      have hne := old_ne h a2.2.1 b2.2.1
      rw [fi_of h.1 (h.2.1 _ hne).2]
    · rw [if_neg n8, if_neg n8]
section EX
variable {S S0 : ES} {Bf : Nat → Nat} {r L c : Nat} {f : Int} {added : Bool}
theorem ex_pos (h4 : S 4 r < 4) (hL : L < S 4 r) (hc : c < 8 ^ L) (hB : ∀ L c, L ≤ S 4 r → c < 8 ^ L → bitW Bf r L c = (decide (0 ≤ f) && (mtP S0 r c L).1)) (hf : f < 0 ∨ ∃ k : Nat, k < 7 ∧ f = (k : Int) ∧ oldR S S0 k added) (hm : (mtP S r c L).1 = true) (n8 : S 8 (r * 3 + L) = 0) {g : Nat} (hg : g < 7) :
    exP S Bf (mtP S r c L).2 r L c (bitW Bf r L c) f g = extB S r L (mtP S r c L).2 g := by
  have hx : extB S r L (mtP S r c L).2 g = (hsN S g && (fiP S (mtP S r c L).2 (r * 3 + L) g).1) := by
    unfold extB
    rw [if_pos n8, decide_eq_false (show ¬ g = 7 by omega)]
    rfl
  rw [hx]
  unfold exP
  rw [hB L c (by omega) hc, hB (L + 1) (nxc c L g) (by omega) (nxc_lt hc (by omega)), mt_nx (by omega) hc (by omega)]
  rcases hf with hf | ⟨k, hk, rfl, ho⟩
  · rw [decide_eq_false (show ¬ 0 ≤ f by omega)]
    simp
  · rw [decide_eq_true (show (0 : Int) ≤ (k : Int) by omega)]
    cases h0 : (mtP S0 r c L).1 with
    | false => simp
    | true =>
      rw [env_eq ho h0 hm]
      by_cases e : g = k
      · subst e
        simp
      · rw [decide_eq_false (show ¬ (g : Int) = (k : Int) by omega)]
        have e8 : S0 8 = S 8 := ho.1 8 (by decide) (by decide)
        have hx0 : extB S0 r L (mtP S r c L).2 g = (hsN S g && (fiP S (mtP S r c L).2 (r * 3 + L) g).1) := by
          unfold extB
          rw [e8, if_pos n8, decide_eq_false (show ¬ g = 7 by omega), (ho.2.1 g e).1, fi_of ho.1 (ho.2.1 g e).2]
          rfl
        rw [hx0]
        simp
theorem ex_neg (h4 : S 4 r < 4) (hL : L < S 4 r) (hc : c < 8 ^ L) (hB : ∀ L c, L ≤ S 4 r → c < 8 ^ L → bitW Bf r L c = (decide (0 ≤ f) && (mtP S0 r c L).1)) (hf : f < 0 ∨ ∃ k : Nat, k < 7 ∧ f = (k : Int) ∧ oldR S S0 k added) (hm : (mtP S r c L).1 = true) (n8 : ¬ S 8 (r * 3 + L) = 0) :
    exN S Bf (mtP S r c L).2 r L c (bitW Bf r L c) f.toNat added = !(anP S (mtP S r c L).2 (r * 3 + L) 7) := by
  unfold exN
  rw [hB L c (by omega) hc, hB (L + 1) (nxc c L 7) (by omega) (nxc_lt hc (by omega)), mt_nx (by omega) hc (by omega)]
  rcases hf with hf | ⟨k, hk, rfl, ho⟩
  · rw [decide_eq_false (show ¬ 0 ≤ f by omega)]
    simp
  · rw [decide_eq_true (show (0 : Int) ≤ (k : Int) by omega), Int.toNat_natCast]
    cases h0 : (mtP S0 r c L).1 with
    | false => simp
    | true =>
      rw [env_eq ho h0 hm]
      generalize (mtP S r c L).2 = e
      have e8 : S0 8 = S 8 := ho.1 8 (by decide) (by decide)
      have hx0 : extB S0 r L e 7 = !(anP S0 e (r * 3 + L) 7) := by
        unfold extB
        rw [e8, if_neg n8]
        rfl
      rw [hx0]
      cases hfi : (fiP S e (r * 3 + L) k).1 with
      | false =>
        have ha : anP S0 e (r * 3 + L) 7 = anP S e (r * 3 + L) 7 := by
          rw [Bool.eq_iff_iff, an_ex, an_ex]
          constructor
          · rintro ⟨g, g1, g2, g3⟩
            by_cases e1 : g = k
            · subst e1
              have hadd : added = false := by
                have := ho.2.2.1
                rw [g2] at this
                cases added
                · rfl
                · cases this
              rw [fi_of ho.1 (ho.2.2.2.2 hadd), hfi] at g3
              cases g3
            · refine ⟨g, g1, by rw [← (ho.2.1 g e1).1]; exact g2, ?_⟩
              rw [← fi_of ho.1 (ho.2.1 g e1).2]
              exact g3
          · rintro ⟨g, g1, g2, g3⟩
            by_cases e1 : g = k
            · subst e1
              rw [hfi] at g3
              cases g3
            · refine ⟨g, g1, by rw [(ho.2.1 g e1).1]; exact g2, ?_⟩
              rw [fi_of ho.1 (ho.2.1 g e1).2]
              exact g3
        simp [ha]
      | true =>
        cases added with
        | false => simp
        | true =>
          have ha : anP S e (r * 3 + L) 7 = true := an_ex.mpr ⟨k, hk, ho.2.2.2.1, hfi⟩
          simp [ha]
theorem exL_bits (e : E3) (old : Bool) (W : Nat → Nat) (hL : L < 3) (hc : c < 8 ^ L) {L' c' : Nat} (hL' : L' ≤ 3) (hc' : c' < 8 ^ L') : ∀ {n : Nat}, n ≤ 7 → (bitW (exL S Bf e r L c old f W n) r L' c' = true ↔ bitW W r L' c' = true ∨ ∃ g, g < n ∧ exP S Bf e r L c old f g = true ∧ L' = L + 1 ∧ c' = nxc c L g)
  | 0, _ => ⟨Or.inl, fun h => h.elim id (fun ⟨g, h, _⟩ => absurd h (Nat.not_lt_zero g))⟩
  | n + 1, hn => by
    have ih := exL_bits e old W hL hc hL' hc' (n := n) (by omega)
    unfold exL
    by_cases hx : exP S Bf e r L c old f n = true
    · rw [if_pos hx, bit_put (by omega) (nxc_lt hc (by omega)) hL' hc', ih]
      constructor
      · rintro ((h | ⟨g, g1, g2⟩) | h)
        · exact Or.inl h
        · exact Or.inr ⟨g, by omega, g2⟩
        · exact Or.inr ⟨n, by omega, hx, h⟩
      · rintro (h | ⟨g, g1, g2, g3⟩)
        · exact Or.inl (Or.inl h)
        · by_cases e1 : g = n
          · rw [e1] at g3
            exact Or.inr g3
          · exact Or.inl (Or.inr ⟨g, by omega, g2, g3⟩)
    · rw [if_neg hx, ih]
      constructor
      · rintro (h | ⟨g, g1, g2⟩)
        · exact Or.inl h
        · exact Or.inr ⟨g, by omega, g2⟩
      · rintro (h | ⟨g, g1, g2, g3⟩)
        · exact Or.inl h
        · by_cases e1 : g = n
          · rw [e1] at g2
            exact absurd g2 hx
          · exact Or.inr ⟨g, by omega, g2, g3⟩
theorem exL_out (e : E3) (old : Bool) (W : Nat → Nat) (hL : L < 3) (hc : c < 8 ^ L) {j : Nat} (hj : ¬ (r * 11 ≤ j ∧ j < r * 11 + 11)) : ∀ {n : Nat}, n ≤ 7 → exL S Bf e r L c old f W n j = W j
  | 0, _ => rfl
  | n + 1, hn => by
    have ih := exL_out e old W hL hc hj (n := n) (by omega)
    unfold exL
    by_cases hx : exP S Bf e r L c old f n = true
    · rw [if_pos hx, put_out (by omega) (nxc_lt hc (by omega)) hj, ih]
    · rw [if_neg hx, ih]
theorem exW_out (W : Nat → Nat) (hL : L < 3) (hc : c < 8 ^ L) {j : Nat} (hj : ¬ (r * 11 ≤ j ∧ j < r * 11 + 11)) : exW S Bf r L c f added W j = W j := by
  unfold exW
  split
  · exact exL_out _ _ W hL hc hj (by decide)
  · split
    · exact put_out (by omega) (nxc_lt hc (by decide)) hj
    · rfl
theorem exW_bits (W : Nat → Nat) (h4 : S 4 r < 4) (hL : L < S 4 r) (hc : c < 8 ^ L) (hB : ∀ L c, L ≤ S 4 r → c < 8 ^ L → bitW Bf r L c = (decide (0 ≤ f) && (mtP S0 r c L).1)) (hf : f < 0 ∨ ∃ k : Nat, k < 7 ∧ f = (k : Int) ∧ oldR S S0 k added) (hm : (mtP S r c L).1 = true) {L' c' : Nat} (hL' : L' ≤ 3) (hc' : c' < 8 ^ L') :
    bitW (exW S Bf r L c f added W) r L' c' = true ↔ bitW W r L' c' = true ∨ (L' = L + 1 ∧ ∃ g, g < 8 ∧ c' = nxc c L g ∧ extB S r L (mtP S r c L).2 g = true) := by
  unfold exW
  rw [bn_mt hm]
  by_cases n8 : S 8 (r * 3 + L) = 0
  · rw [if_pos n8, exL_bits _ _ W (by omega) hc hL' hc' (Nat.le_refl 7)]
    constructor
    · rintro (h | ⟨g, g1, g2, g3, g4⟩)
      · exact Or.inl h
      · rw [ex_pos h4 hL hc hB hf hm n8 g1] at g2
        exact Or.inr ⟨g3, g, by omega, g4, g2⟩
    · rintro (h | ⟨g3, g, g1, g4, g2⟩)
      · exact Or.inl h
      · have hg : g < 7 := by
          rcases Nat.lt_or_ge g 7 with h | h
          · exact h
          · have e7 : g = 7 := by omega
            rw [e7] at g2
            unfold extB at g2
            rw [if_pos n8] at g2
            exact absurd g2 (by simp)
        exact Or.inr ⟨g, hg, by rw [ex_pos h4 hL hc hB hf hm n8 hg]; exact g2, g3, g4⟩
  · rw [if_neg n8, ex_neg h4 hL hc hB hf hm n8]
    have hx : ∀ g, extB S r L (mtP S r c L).2 g = true ↔ g = 7 ∧ (!(anP S (mtP S r c L).2 (r * 3 + L) 7)) = true := by
      intro g
      unfold extB
      rw [if_neg n8, Bool.and_eq_true, decide_eq_true_eq]
    by_cases ha : (!(anP S (mtP S r c L).2 (r * 3 + L) 7)) = true
    · rw [if_pos ha, bit_put (by omega) (nxc_lt hc (by decide)) hL' hc']
      constructor
      · rintro (h | ⟨h1, h2⟩)
        · exact Or.inl h
        · exact Or.inr ⟨h1, 7, by decide, h2, (hx 7).mpr ⟨rfl, ha⟩⟩
      · rintro (h | ⟨h1, g, g1, g2, g3⟩)
        · exact Or.inl h
        · rw [((hx g).mp g3).1] at g2
          exact Or.inr ⟨h1, g2⟩
    · rw [if_neg ha]
      constructor
      · exact Or.inl
      · rintro (h | ⟨h1, g, g1, g2, g3⟩)
        · exact h
        · exact absurd ((hx g).mp g3).2 ha
/-- the words up to level n hold the matches, above it nothing -/
def goodW (S : ES) (r : Nat) (W : Nat → Nat) (n : Nat) : Prop := (∀ L c, L ≤ n → c < 8 ^ L → (bitW W r L c = true ↔ (mtP S r c L).1 = true)) ∧ ∀ L c, n < L → L ≤ 3 → c < 8 ^ L → ¬ bitW W r L c = true
theorem upC_bits (W : Nat → Nat) (h4 : S 4 r < 4) (hL : L < S 4 r) (hB : ∀ L c, L ≤ S 4 r → c < 8 ^ L → bitW Bf r L c = (decide (0 ≤ f) && (mtP S0 r c L).1)) (hf : f < 0 ∨ ∃ k : Nat, k < 7 ∧ f = (k : Int) ∧ oldR S S0 k added) (hW : goodW S r W L) :
    ∀ {n : Nat}, n ≤ 8 ^ L → (∀ L' c', L' ≤ 3 → L' ≠ L + 1 → c' < 8 ^ L' → (bitW (upC S Bf r L f added W n) r L' c' = true ↔ bitW W r L' c' = true)) ∧ (∀ c', c' < 8 ^ (L + 1) → (bitW (upC S Bf r L f added W n) r (L + 1) c' = true ↔ c' % 8 ^ L < n ∧ (mtP S r c' (L + 1)).1 = true))
  | 0, _ => ⟨fun _ _ _ _ _ => Iff.rfl, fun c' h => ⟨fun hb => absurd hb (hW.2 (L + 1) c' (by omega) (by omega) h), fun hb => absurd hb.1 (Nat.not_lt_zero _)⟩⟩
  | n + 1, hn => by
    obtain ⟨ih1, ih2⟩ := upC_bits W h4 hL hB hf hW (n := n) (by omega)
    have hbn : bitW (upC S Bf r L f added W n) r L n = true ↔ (mtP S r n L).1 = true := (ih1 L n (by omega) (by omega) (by omega)).trans (hW.1 L n (Nat.le_refl _) (by omega))
    have hmt : ∀ g, g < 8 → (mtP S r (nxc n L g) (L + 1)).1 = ((mtP S r n L).1 && extB S r L (mtP S r n L).2 g) := fun g hg => mt_nx (by omega) (by omega) hg
    unfold upC
    by_cases hb : bitW (upC S Bf r L f added W n) r L n = true
    · have hm := hbn.mp hb
      rw [if_pos hb]
      refine ⟨fun L' c' a1 a2 a3 => ?_, fun c' a => ?_⟩
      · rw [exW_bits _ h4 hL (by omega) hB hf hm a1 a3, ih1 L' c' a1 a2 a3]
        exact ⟨fun h => h.elim id (fun h => absurd h.1 a2), Or.inl⟩
      · rw [exW_bits _ h4 hL (by omega) hB hf hm (by omega) a, ih2 c' a]
        obtain ⟨d1, d2, d3⟩ := nx_dec a
        constructor
        · rintro (⟨b1, b2⟩ | ⟨-, g, g1, g2, g3⟩)
          · exact ⟨by omega, b2⟩
          · refine ⟨?_, ?_⟩
            · rw [g2, nx_mod (by omega)]
              omega
            · rw [g2, hmt g g1, hm, g3]
              rfl
        · rintro ⟨b1, b2⟩
          by_cases e : c' % 8 ^ L = n
          · refine Or.inr ⟨rfl, c' / 8 ^ L, d2, by rw [← e]; exact d1, ?_⟩
            rw [d1, e, hmt _ d2, hm, Bool.true_and] at b2
            exact b2
          · exact Or.inl ⟨by omega, b2⟩
    · rw [if_neg hb]
      refine ⟨ih1, fun c' a => ?_⟩
      rw [ih2 c' a]
      obtain ⟨d1, d2, d3⟩ := nx_dec a
      refine ⟨fun h => ⟨by omega, h.2⟩, fun h => ⟨?_, h.2⟩⟩
      by_cases e : c' % 8 ^ L = n
      · have h2 := h.2
        rw [d1, e, hmt _ d2] at h2
        exact absurd (hbn.mpr (Bool.and_eq_true_iff.mp h2).1) hb
      · omega
theorem upC_out (W : Nat → Nat) (hL : L < 3) {j : Nat} (hj : ¬ (r * 11 ≤ j ∧ j < r * 11 + 11)) : ∀ {n : Nat}, n ≤ 8 ^ L → upC S Bf r L f added W n j = W j
  | 0, _ => rfl
  | n + 1, hn => by
    have ih := upC_out W hL hj (n := n) (by omega)
    unfold upC
    split
    · rw [exW_out _ hL (by omega) hj, ih]
    · exact ih
theorem upL_good (W : Nat → Nat) (h4 : S 4 r < 4) (hB : ∀ L c, L ≤ S 4 r → c < 8 ^ L → bitW Bf r L c = (decide (0 ≤ f) && (mtP S0 r c L).1)) (hf : f < 0 ∨ ∃ k : Nat, k < 7 ∧ f = (k : Int) ∧ oldR S S0 k added) (hW : goodW S r W 0) :
    ∀ {n : Nat}, n ≤ S 4 r → goodW S r (upL S Bf r f added W n) n
  | 0, _ => hW
  | n + 1, hn => by
    have ih := upL_good W h4 hB hf hW (n := n) (by omega)
    obtain ⟨b1, b2⟩ := upC_bits (upL S Bf r f added W n) h4 (L := n) (by omega) hB hf ih (Nat.le_refl (8 ^ n))
    unfold upL
    refine ⟨fun L c a1 a2 => ?_, fun L c a1 a2 a3 => ?_⟩
    · by_cases e : L = n + 1
      · subst e
        rw [b2 c a2]
        exact ⟨fun h => h.2, fun h => ⟨(nx_dec a2).2.2, h⟩⟩
      · rw [b1 L c (by omega) e a2]
        exact ih.1 L c (by omega) a2
    · rw [b1 L c a2 (by omega) a3]
      exact ih.2 L c (by omega) a2 a3
theorem upL_out (W : Nat → Nat) {j : Nat} (hj : ¬ (r * 11 ≤ j ∧ j < r * 11 + 11)) : ∀ {n : Nat}, n ≤ 3 → upL S Bf r f added W n j = W j
  | 0, _ => rfl
  | n + 1, hn => by
    unfold upL
    rw [upC_out _ (by omega) hj (Nat.le_refl _), upL_out W hj (by omega)]
end EX
/-- AN UPDATE of rule r: its words hold its matches, the others are as they were -/
theorem up_spec {S S0 : ES} {r : Nat} {f : Int} {added : Bool} (h4 : S 4 r < 4) (hf : f < 0 ∨ ∃ k : Nat, k < 7 ∧ f = (k : Int) ∧ oldR S S0 k added) (hW : 0 ≤ f → ∀ L c, L ≤ S 4 r → c < 8 ^ L → bitW (S 9) r L c = (mtP S0 r c L).1) :
    (∀ L c, L ≤ S 4 r → c < 8 ^ L → bitW (up9 S r f added) r L c = (mtP S r c L).1) ∧ ∀ j, ¬ (r * 11 ≤ j ∧ j < r * 11 + 11) → up9 S r f added j = S 9 j := by
  have wz : ∀ {L c : Nat}, L ≤ 3 → c < 8 ^ L → (wix r L c = r * 11 ↔ L = 0) := by
    intro L c h1 h2
    unfold wix
    rcases (show L = 0 ∨ L = 1 ∨ L = 2 ∨ L = 3 by omega) with rfl | rfl | rfl | rfl <;> simp only [Nat.reducePow] at h2 <;> omega
  have hB : ∀ L c, L ≤ S 4 r → c < 8 ^ L → bitW (bf10 (S 9) r f) r L c = (decide (0 ≤ f) && (mtP S0 r c L).1) := by
    intro L c h1 h2
    by_cases hn : f < 0
    · rw [bf_neg hn, decide_eq_false (show ¬ 0 ≤ f by omega)]
      rfl
    · rw [decide_eq_true (show 0 ≤ f by omega), Bool.true_and]
      by_cases e : L = 0
      · subst e
        have hc : c = 0 := by simpa using h2
        subst hc
        unfold bitW bf10
        rw [if_neg hn, if_pos ((wz (by omega) h2).mpr rfl)]
        rfl
      · rw [← hW (by omega) L c h1 h2]
        unfold bitW bf10
        rw [if_neg hn, if_neg (fun h => e ((wz (by omega) h2).mp h))]
  have h0 : goodW S r (updN (clr9 (S 9) r 11) (r * 11) 1) 0 := by
    refine ⟨fun L c h1 h2 => ?_, fun L c h1 h2 h3 => ?_⟩
    · have e : L = 0 := by omega
      subst e
      have hc : c = 0 := by simpa using h2
      subst hc
      unfold bitW
      rw [(wz (by omega) h2).mpr rfl, updN_s]
      exact ⟨fun _ => rfl, fun _ => rfl⟩
    · unfold bitW
      rw [updN_n (fun h => absurd ((wz h2 h3).mp h) (by omega))]
      unfold clr9
      rw [if_pos (wix_r h2 h3), Nat.zero_testBit]
      decide
  have hg := upL_good (added := added) (S := S) (r := r) _ h4 hB hf h0 (Nat.le_refl (S 4 r))
  refine ⟨fun L c h1 h2 => Bool.eq_iff_iff.mpr (hg.1 L c h1 h2), fun j hj => ?_⟩
  unfold up9
  rw [upL_out _ hj (by omega), updN_n (fun h => hj (by omega))]
  unfold clr9
  rw [if_neg hj]
end
section
/-! THE PLAIN LAW, II: the engine's invariant, kept by its changes -/
set_option maxRecDepth 100000
def eI (S : ES) : Prop := eOK S ∧ ∀ r, r < 3 → ∀ L c, L ≤ S 4 r → c < 8 ^ L → bitW (S 9) r L c = (mtP S r c L).1
theorem fi_c3 {S S' : ES} {cell : Nat} (h0 : ∀ i, i < 4 → S' i = S i) (hc : ∀ k, 5 ≤ k → k < 9 → S' k cell = S k cell) (e : E3) (g : Nat) : fiP S' e cell g = fiP S e cell g := by
  unfold fiP
  rw [h0 1 (by decide), h0 2 (by decide), h0 3 (by decide), hc 5 (by decide) (by decide), hc 6 (by decide) (by decide), hc 7 (by decide) (by decide)]
theorem an_c3 {S S' : ES} {cell : Nat} (h0 : ∀ i, i < 4 → S' i = S i) (hc : ∀ k, 5 ≤ k → k < 9 → S' k cell = S k cell) (e : E3) : ∀ n, anP S' e cell n = anP S e cell n
  | 0 => rfl
  | n + 1 => by
    unfold anP hsN
    rw [an_c3 h0 hc e n, fi_c3 h0 hc, h0 0 (by decide)]
theorem mt_c {S S' : ES} {r : Nat} (h0 : ∀ i, i < 4 → S' i = S i) (c : Nat) : ∀ {n : Nat}, (∀ i, i < n → ∀ k, 5 ≤ k → k < 9 → S' k (r * 3 + i) = S k (r * 3 + i)) → mtP S' r c n = mtP S r c n
  | 0, _ => rfl
  | n + 1, h => by
    have ih := mt_c h0 c (n := n) (fun i hi => h i (by omega))
    have hc := h n (by omega)
    unfold mtP
    rw [ih]
    have e1 : ∀ e g, extB S' r n e g = extB S r n e g := by
      intro e g
      unfold extB hsN
      rw [hc 8 (by decide) (by decide), fi_c3 h0 hc, an_c3 h0 hc, h0 0 (by decide)]
    have e2 : ∀ e g, envB S' r n e g = envB S r n e g := by
      intro e g
      unfold envB
      rw [hc 8 (by decide) (by decide), fi_c3 h0 hc]
    rw [e1, e2]
theorem mt_c9 {S S' : ES} (h : ∀ i, i < 9 → S' i = S i) (r c n : Nat) : mtP S' r c n = mtP S r c n := mt_c (fun i hi => h i (by omega)) c (fun i _ k _ hk => by rw [h k hk])
/-- a rule changed: only its words are made anew -/
theorem up_I1 {S S1 S' : ES} {a : Nat} (hI : eI S) (h : upR S1 S' a (-1) true) (h9 : S1 9 = S 9) (h0 : ∀ i, i < 4 → S1 i = S i) (ho : ∀ r, r < 3 → r ≠ a → S1 4 r = S 4 r ∧ ∀ i, i < 3 → ∀ k, 5 ≤ k → k < 9 → S1 k (r * 3 + i) = S k (r * 3 + i)) (h4 : S1 4 a < 4) : eI S' := by
  obtain ⟨u1, u2, u3⟩ := h
  obtain ⟨s1, s2⟩ := up_spec (S := S1) (S0 := S1) (r := a) (f := -1) (added := true) h4 (Or.inl (by decide)) (fun h => absurd h (by decide))
  refine ⟨u3, fun r hr L c hL hc => ?_⟩
  rw [u2 4 (by decide)] at hL
  rw [mt_c9 u2]
  by_cases e : r = a
  · subst e
    rw [u1]
    exact s1 L c hL hc
  · obtain ⟨o1, o2⟩ := ho r hr e
    have hk : S 4 r < 4 := hI.1 4 r
    rw [o1] at hL
    rw [mt_c h0 c (fun i hi => o2 i (by omega)), ← hI.2 r hr L c hL hc]
    refine bitW_c (fun j j1 j2 => ?_) (by omega) hc
    rw [u1, s2 j (by omega), h9]
theorem old_c {S1 S1' S : ES} {k : Nat} {added : Bool} (h : ∀ i, i < 9 → S1' i = S1 i) (ho : oldR S1 S k added) : oldR S1' S k added := by
  obtain ⟨a1, a2, a3, a4, a5⟩ := ho
  refine ⟨fun i h1 h2 => by rw [h i h2]; exact a1 i h1 h2, fun g hg => ?_, a3, ?_, fun hf => ?_⟩
  · rw [hsN_c h, h 1 (by decide), h 2 (by decide), h 3 (by decide)]
    exact a2 g hg
  · rw [hsN_c h]
    exact a4
  · rw [h 1 (by decide), h 2 (by decide), h 3 (by decide)]
    exact a5 hf
/-- a fact came or went: the three rules, one behind another -/
theorem up_I3 {S S1 S' : ES} {k : Nat} {added : Bool} (hI : eI S) (hk : k < 7) (ho : oldR S1 S k added) (h9 : S1 9 = S 9) (h : up3 S1 S' k added) (hok : eOK S1) : eI S' := by
  obtain ⟨Sa, Sb, ⟨a1, a2, a3⟩, ⟨b1, b2, b3⟩, c1, c2, c3⟩ := h
  have b2' : ∀ i, i < 9 → Sb i = S1 i := fun i hi => (b2 i hi).trans (a2 i hi)
  have c2' : ∀ i, i < 9 → S' i = S1 i := fun i hi => (c2 i hi).trans (b2' i hi)
  have e4 : S 4 = S1 4 := ho.1 4 (by decide) (by decide)
  obtain ⟨s1, s2⟩ := up_spec (S := S1) (S0 := S) (r := 0) (f := k) (added := added) (hok 4 0) (Or.inr ⟨k, hk, rfl, ho⟩) (fun _ L c hL hc => by rw [h9]; exact hI.2 0 (by decide) L c (by rw [e4]; exact hL) hc)
  have wa : ∀ r, 0 < r → r < 3 → ∀ L c, L ≤ S1 4 r → c < 8 ^ L → bitW (Sa 9) r L c = (mtP S r c L).1 := by
    intro r h0 h3 L c hL hc
    rw [← hI.2 r h3 L c (by rw [e4]; exact hL) hc]
    have := hok 4 r
    refine bitW_c (fun j j1 j2 => ?_) (by have : S1 4 r < 4 := hok 4 r; omega) hc
    rw [a1, s2 j (by omega), h9]
  obtain ⟨t1, t2⟩ := up_spec (S := Sa) (S0 := S) (r := 1) (f := k) (added := added) (a3 4 1) (Or.inr ⟨k, hk, rfl, old_c a2 ho⟩) (fun _ L c hL hc => wa 1 (by decide) (by decide) L c (by rw [← a2 4 (by decide)]; exact hL) hc)
  have wb : ∀ L c, L ≤ S1 4 2 → c < 8 ^ L → bitW (Sb 9) 2 L c = (mtP S 2 c L).1 := by
    intro L c hL hc
    rw [← wa 2 (by decide) (by decide) L c hL hc]
    refine bitW_c (fun j j1 j2 => ?_) (by have : S1 4 2 < 4 := hok 4 2; omega) hc
    rw [b1, t2 j (by omega)]
  obtain ⟨v1, v2⟩ := up_spec (S := Sb) (S0 := S) (r := 2) (f := k) (added := added) (b3 4 2) (Or.inr ⟨k, hk, rfl, old_c b2' ho⟩) (fun _ L c hL hc => wb L c (by rw [← b2' 4 (by decide)]; exact hL) hc)
  refine ⟨c3, fun r hr L c hL hc => ?_⟩
  rw [c2' 4 (by decide)] at hL
  have hL3 : L ≤ 3 := by
    have : S1 4 r < 4 := hok 4 r
    omega
  rw [mt_c9 c2']
  rcases (show r = 0 ∨ r = 1 ∨ r = 2 by omega) with rfl | rfl | rfl
  · rw [← s1 L c hL hc]
    refine bitW_c (fun j j1 j2 => ?_) hL3 hc
    rw [c1, v2 j (by omega), b1, t2 j (by omega), a1]
  · rw [← mt_c9 a2, ← t1 L c (by rw [a2 4 (by decide)]; exact hL) hc]
    refine bitW_c (fun j j1 j2 => ?_) hL3 hc
    rw [c1, v2 j (by omega), b1]
  · rw [← mt_c9 b2', ← v1 L c (by rw [b2' 4 (by decide)]; exact hL) hc, c1]
theorem old_add {S : ES} {f k a b : Nat} (h : hsN S f = false) : oldR (adS S f k a b) S f true := by
  refine ⟨fun i h1 h2 => ?_, fun g hg => ⟨?_, ?_, ?_, ?_⟩, h, ?_, fun h => by cases h⟩
  · unfold adS
    rw [up2_n (by omega), up2_n (by omega), up2_n (by omega), up2_n (by omega)]
  · unfold hsN adS
    rw [up2_n (by decide), up2_n (by decide), up2_n (by decide), up2_s, updN_s, Nat.testBit_or, Nat.testBit_two_pow, decide_eq_false (fun e => hg e.symm), Bool.or_false]
  · unfold adS
    rw [up2_n (by decide), up2_n (by decide), up2_s, updN_n hg, up2_n (by decide)]
  · unfold adS
    rw [up2_n (by decide), up2_s, updN_n hg, up2_n (by decide), up2_n (by decide)]
  · unfold adS
    rw [up2_s, updN_n hg, up2_n (by decide), up2_n (by decide), up2_n (by decide)]
  · unfold hsN adS
    rw [up2_n (by decide), up2_n (by decide), up2_n (by decide), up2_s, updN_s, Nat.testBit_or, Nat.testBit_two_pow, decide_eq_true rfl, Bool.or_true]
theorem clr_b : ∀ p, p < 128 → ∀ f, f < 7 → p.testBit f = true → ∀ g, g < 7 → (p - 2 ^ f).testBit g = (p.testBit g && !(decide (g = f))) := by decide +kernel
theorem clr_h {S : ES} (hok : eOK S) {f : Nat} (hf : f < 7) (h : hsN S f = true) (g : Nat) : hsN (up2 S 0 0 (S 0 0 - 2 ^ f)) g = (hsN S g && !(decide (g = f))) := by
  have hp : S 0 0 < 128 := hok 0 0
  unfold hsN at h ⊢
  rw [up2_s, updN_s]
  rcases Nat.lt_or_ge g 7 with hg | hg
  · exact clr_b _ hp f hf h g hg
  · have h2 : (2 : Nat) ^ 7 ≤ 2 ^ g := Nat.pow_le_pow_right (by decide) hg
    have h3 : (2 : Nat) ^ 7 = 128 := by decide
    rw [Nat.testBit_lt_two_pow (show S 0 0 < 2 ^ g by omega), Nat.testBit_lt_two_pow (Nat.lt_of_le_of_lt (Nat.sub_le _ _) (show S 0 0 < 2 ^ g by omega))]
    rfl
theorem old_rem {S : ES} (hok : eOK S) {f : Nat} (hf : f < 7) (h : hsN S f = true) : oldR (up2 S 0 0 (S 0 0 - 2 ^ f)) S f false := by
  refine ⟨fun i h1 h2 => ?_, fun g hg => ⟨?_, ?_, ?_, ?_⟩, h, ?_, fun _ => ⟨?_, ?_, ?_⟩⟩
  · rw [up2_n (by omega)]
  · rw [clr_h hok hf h g, decide_eq_false hg]
    simp
  · rw [up2_n (by decide)]
  · rw [up2_n (by decide)]
  · rw [up2_n (by decide)]
  · rw [clr_h hok hf h f]
    simp
  · rw [up2_n (by decide)]
  · rw [up2_n (by decide)]
  · rw [up2_n (by decide)]
theorem cd_I {S S' : ES} {a w : Nat} (hI : eI S) (h4 : S 4 a < 3) (h : upR (cdS S a w) S' a (-1) true) : eI S' := by
  refine up_I1 hI h ?_ (fun i hi => ?_) (fun r hr hne => ⟨?_, fun i hi k k1 k2 => ?_⟩) ?_
  · unfold cdS
    rw [up2_n (by decide), up2_n (by decide), up2_n (by decide), up2_n (by decide), up2_n (by decide)]
  · unfold cdS
    rw [up2_n (by omega), up2_n (by omega), up2_n (by omega), up2_n (by omega), up2_n (by omega)]
  · unfold cdS
    rw [up2_s, updN_n hne, up2_n (by decide), up2_n (by decide), up2_n (by decide), up2_n (by decide)]
  · have hx : r * 3 + i ≠ a * 3 + S 4 a := by omega
    unfold cdS
    rw [up2_n (by omega)]
    rcases (show k = 5 ∨ k = 6 ∨ k = 7 ∨ k = 8 by omega) with rfl | rfl | rfl | rfl
    · rw [up2_n (by decide), up2_n (by decide), up2_n (by decide), up2_s, updN_n hx]
    · rw [up2_n (by decide), up2_n (by decide), up2_s, updN_n hx, up2_n (by decide)]
    · rw [up2_n (by decide), up2_s, updN_n hx, up2_n (by decide), up2_n (by decide)]
    · rw [up2_s, updN_n hx, up2_n (by decide), up2_n (by decide), up2_n (by decide)]
  · unfold cdS
    rw [up2_s, updN_s]
    omega
theorem dp_I {S S' : ES} {a : Nat} (hI : eI S) (h : upR (up2 S 4 a (S 4 a - 1)) S' a (-1) true) : eI S' := by
  have h4 : S 4 a < 4 := hI.1 4 a
  refine up_I1 hI h (up2_n (by decide)) (fun i hi => up2_n (by omega)) (fun r hr hne => ⟨by rw [up2_s, updN_n hne], fun i hi k k1 k2 => by rw [up2_n (by omega)]⟩) ?_
  rw [up2_s, updN_s]
  omega
theorem ad_I {S S' : ES} {f k a b : Nat} (hI : eI S) (hf : f < 7) (hk : k < 3) (ha : a < 4) (hb : b < 4) (hn : hsN S f = false) (h : up3 (adS S f k a b) S' f true) : eI S' := up_I3 hI hf (old_add hn) (by unfold adS; rw [up2_n (by decide), up2_n (by decide), up2_n (by decide), up2_n (by decide)]) h (adS_ok hI.1 hf hk ha hb)
theorem rm_I {S S' : ES} {f : Nat} (hI : eI S) (hf : f < 7) (hn : hsN S f = true) (h : up3 (up2 S 0 0 (S 0 0 - 2 ^ f)) S' f false) : eI S' := up_I3 hI hf (old_rem hI.1 hf hn) (up2_n (by decide)) h (hI.1.up 0 _ (show S 0 0 - 2 ^ f < 128 from Nat.lt_of_le_of_lt (Nat.sub_le _ _) (hI.1 0 0)))
theorem up3_st {S1 S' : ES} {f : Int} {added : Bool} (h : up3 S1 S' f added) : ∀ i, i < 9 → S' i = S1 i := by
  obtain ⟨Sa, Sb, ⟨-, a2, -⟩, ⟨-, b2, -⟩, -, c2, -⟩ := h
  exact fun i hi => (c2 i hi).trans ((b2 i hi).trans (a2 i hi))
end
section
/-! THE PLAIN LAW, III: engine and model tell the same matches -/
set_option maxRecDepth 100000
def rel (S T : ES) : Prop := (∀ f, f < 7 → hsN S f = decide (¬ T 1 f = 0)) ∧ S 1 = T 2 ∧ S 2 = T 3 ∧ S 3 = T 4 ∧ S 4 = T 5 ∧ ∀ c, S 5 c = T 6 c % 4 ∧ S 6 c = T 6 c / 4 % 8 ∧ S 7 c = T 6 c / 32 % 8 ∧ S 8 c = (decide (256 ≤ T 6 c)).toNat
def cvn (n : Nat) : Nat := if n = 4 then 0 else n + 1
def cv (e : E3) : E3 := (cvn e.1, cvn e.2.1, cvn e.2.2)
theorem e3g_cv (e : E3) (x : Nat) : e3g (cv e) x = cvn (e3g e x) := by
  unfold e3g cv
  split <;> rfl
theorem e3s_cv (e : E3) (x : Nat) {v : Nat} (h : v < 4) : cv (e3s e x v) = e3s (cv e) x (v + 1) := by
  have hv : cvn v = v + 1 := if_neg (by omega)
  unfold e3s cv
  split <;> simp only [hv]
theorem mf_me (e : E3) {d v : Nat} (hd : d < 8) (hv : v < 4) : mfP (cv e) d v = ((meP e d v).1, cv (meP e d v).2) := by
  by_cases h1 : d ≤ 3
  · have a : mfP (cv e) d v = (decide (v = d), cv e) := if_pos h1
    have b : meP e d v = (decide (d = 7 ∨ d = v), e) := if_pos (by omega)
    rw [a, b]
    show (decide (v = d), cv e) = (decide (d = 7 ∨ d = v), cv e)
    rw [show decide (v = d) = decide (d = 7 ∨ d = v) from decide_eq_decide.mpr (by omega)]
  · by_cases h2 : d = 7
    · have a : mfP (cv e) d v = (true, cv e) := by
        unfold mfP
        rw [if_neg h1, if_pos h2]
      have b : meP e d v = (decide (d = 7 ∨ d = v), e) := if_pos (by omega)
      rw [a, b]
      show (true, cv e) = (decide (d = 7 ∨ d = v), cv e)
      rw [decide_eq_true (Or.inl h2)]
    · have b0 : meP e d v = if e3g e (d - 4) = 4 then (true, e3s e (d - 4) v) else (decide (e3g e (d - 4) = v), e) := if_neg (by omega)
      have a0 : mfP (cv e) d v = if e3g (cv e) (d - 4) = 0 then (true, e3s (cv e) (d - 4) (v + 1)) else (decide (e3g (cv e) (d - 4) = v + 1), cv e) := by
        unfold mfP
        rw [if_neg h1, if_neg h2]
      by_cases h3 : e3g e (d - 4) = 4
      · have g : e3g (cv e) (d - 4) = 0 := by
          rw [e3g_cv]
          exact if_pos h3
        rw [a0, b0, if_pos g, if_pos h3]
        show (true, e3s (cv e) (d - 4) (v + 1)) = (true, cv (e3s e (d - 4) v))
        rw [e3s_cv e _ hv]
      · have g : e3g (cv e) (d - 4) = e3g e (d - 4) + 1 := by
          rw [e3g_cv]
          exact if_neg h3
        rw [a0, b0, g, if_neg (Nat.succ_ne_zero _), if_neg h3]
        show (decide (e3g e (d - 4) + 1 = v + 1), cv e) = (decide (e3g e (d - 4) = v), cv e)
        rw [show decide (e3g e (d - 4) + 1 = v + 1) = decide (e3g e (d - 4) = v) from decide_eq_decide.mpr (by omega)]
theorem tk_fi {S T : ES} (ho : eOK S) (hR : rel S T) (e : E3) (cell : Nat) {f : Nat} (hf : f < 7) : tkP T (cv e) (T 6 cell) f = if hsN S f = true then ((fiP S e cell f).1, cv (fiP S e cell f).2) else (false, cv e) := by
  obtain ⟨r0, r1, r2, r3, r4, r5⟩ := hR
  obtain ⟨c5, c6, c7, c8⟩ := r5 cell
  have b2 : S 2 f < 4 := ho 2 f
  have b3 : S 3 f < 4 := ho 3 f
  have b6 : S 6 cell < 8 := ho 6 cell
  have b7 : S 7 cell < 8 := ho 7 cell
  have h0 := r0 f hf
  have t0 : tkP T (cv e) (T 6 cell) f = if T 1 f = 0 then (false, cv e) else if S 1 f = S 5 cell then (if (mfP (cv e) (S 6 cell) (S 2 f)).1 = true then mfP (mfP (cv e) (S 6 cell) (S 2 f)).2 (S 7 cell) (S 3 f) else (false, (mfP (cv e) (S 6 cell) (S 2 f)).2)) else (false, cv e) := by
    unfold tkP
    rw [← r1, ← r2, ← r3, ← c5, ← c6, ← c7]
  rw [t0]
  by_cases ht : T 1 f = 0
  · have hh : ¬ hsN S f = true := by
      rw [h0, decide_eq_false (fun h => h ht)]
      decide
    rw [if_pos ht, if_neg hh]
  · have hh : hsN S f = true := by rw [h0, decide_eq_true ht]
    rw [if_neg ht, if_pos hh]
    by_cases hk : S 1 f = S 5 cell
    · have f0 : fiP S e cell f = if (meP e (S 6 cell) (S 2 f)).1 = true then meP (meP e (S 6 cell) (S 2 f)).2 (S 7 cell) (S 3 f) else (false, (meP e (S 6 cell) (S 2 f)).2) := if_pos hk
      rw [if_pos hk, f0, mf_me e b6 b2]
      by_cases hm : (meP e (S 6 cell) (S 2 f)).1 = true
      · rw [if_pos hm, if_pos hm, mf_me _ b7 b3]
      · rw [if_neg hm, if_neg hm]
    · have f0 : fiP S e cell f = (false, e) := if_neg hk
      rw [if_neg hk, f0]
theorem nn_an {S T : ES} (ho : eOK S) (hR : rel S T) (e : E3) (cell : Nat) : ∀ {n : Nat}, n ≤ 7 → nnP T (cv e) (T 6 cell) n = anP S e cell n
  | 0, _ => rfl
  | n + 1, hn => by
    unfold nnP anP
    rw [nn_an ho hR e cell (n := n) (by omega), tk_fi ho hR e cell (show n < 7 by omega)]
    cases h : hsN S n with
    | false => simp
    | true => simp [Bool.or_comm]
theorem im_mt {S T : ES} (ho : eOK S) (hR : rel S T) {r n code : Nat} : ∀ {i : Nat}, i ≤ n → (imP T r n code i).1 = (mtP S r code i).1 ∧ ((mtP S r code i).1 = true → (imP T r n code i).2 = cv (mtP S r code i).2)
  | 0, _ => ⟨rfl, fun _ => rfl⟩
  | i + 1, hi => by
    obtain ⟨a1, a2⟩ := im_mt ho hR (r := r) (n := n) (code := code) (i := i) (by omega)
    have hx : mtP S r code (i + 1) = ((mtP S r code i).1 && extB S r i (mtP S r code i).2 (dig code i), envB S r i (mtP S r code i).2 (dig code i)) := rfl
    have hy : imP T r n code (i + 1) = if (imP T r n code i).1 = true then stP T r n code (imP T r n code i).2 i else imP T r n code i := rfl
    rw [hx, hy, a1]
    by_cases hm : (mtP S r code i).1 = true
    · rw [if_pos hm, a2 hm, hm, Bool.true_and]
      generalize (mtP S r code i).2 = e
      have hcell : 3 * r + i = r * 3 + i := by omega
      obtain ⟨c5, c6, c7, c8⟩ := hR.2.2.2.2.2 (r * 3 + i)
      have em : emP T r n i = decide (256 ≤ T 6 (r * 3 + i)) := by
        unfold emP
        rw [hcell]
        exact decide_eq_decide.mpr (by omega)
      have hst : stP T r n code (cv e) i = if (emP T r n i || decide (dig code i = 7)) = true then (emP T r n i && decide (dig code i = 7) && (decide (n ≤ i) || !(nnP T (cv e) (T 6 (3 * r + i)) 7)), cv e) else tkP T (cv e) (T 6 (3 * r + i)) (dig code i) := rfl
      rw [hst, hcell, em, decide_eq_false (show ¬ n ≤ i by omega), Bool.false_or, nn_an ho hR e (r * 3 + i) (Nat.le_refl 7)]
      have d8 := dig_lt code i
      generalize dig code i = d at d8 ⊢
      by_cases hw : 256 ≤ T 6 (r * 3 + i)
      · have n8 : ¬ S 8 (r * 3 + i) = 0 := by
          rw [c8, decide_eq_true hw]
          decide
        have x1 : extB S r i e d = (decide (d = 7) && !(anP S e (r * 3 + i) 7)) := if_neg n8
        have x2 : envB S r i e d = e := if_neg n8
        rw [decide_eq_true hw, Bool.true_or, if_pos rfl, x1, x2, Bool.true_and]
        exact ⟨rfl, fun _ => rfl⟩
      · have n8 : S 8 (r * 3 + i) = 0 := by
          rw [c8, decide_eq_false hw]
          rfl
        have x1 : extB S r i e d = (!(decide (d = 7)) && (hsN S d && (fiP S e (r * 3 + i) d).1)) := if_pos n8
        have x2 : envB S r i e d = (fiP S e (r * 3 + i) d).2 := if_pos n8
        rw [decide_eq_false hw, Bool.false_or, x1, x2]
        by_cases h7 : d = 7
        · rw [if_pos (decide_eq_true h7), decide_eq_true h7]
          exact ⟨rfl, fun h => absurd (show false = true from h) (by decide)⟩
        · rw [if_neg (by rw [decide_eq_false h7]; decide), decide_eq_false h7, tk_fi ho hR e (r * 3 + i) (show d < 7 by omega)]
          by_cases hh : hsN S d = true
          · rw [if_pos hh, hh]
            exact ⟨by simp, fun _ => rfl⟩
          · rw [if_neg hh, Bool.not_eq_true _ |>.mp hh]
            exact ⟨rfl, fun h => absurd (show false = true from h) (by decide)⟩
    · rw [if_neg hm]
      have hm' : (mtP S r code i).1 = false := Bool.not_eq_true _ |>.mp hm
      rw [hm', Bool.false_and]
      exact ⟨by rw [a1, hm'], fun h => by cases h⟩
end
section
/-! THE PLAIN LAW, IV: the answers are the same -/
set_option maxRecDepth 100000
theorem im_tail {T : ES} {r n code : Nat} : ∀ {i : Nat}, n ≤ i → ((imP T r n code i).1 = true ↔ (imP T r n code n).1 = true ∧ ∀ j, n ≤ j → j < i → dig code j = 7)
  | 0, h => by
    have e : n = 0 := by omega
    subst e
    exact ⟨fun h => ⟨h, fun j _ hj => absurd hj (Nat.not_lt_zero j)⟩, fun h => h.1⟩
  | i + 1, h => by
    by_cases e : n = i + 1
    · subst e
      exact ⟨fun h => ⟨h, fun j h1 h2 => absurd h2 (by omega)⟩, fun h => h.1⟩
    · have ih := im_tail (T := T) (r := r) (n := n) (code := code) (i := i) (by omega)
      have hy : imP T r n code (i + 1) = if (imP T r n code i).1 = true then stP T r n code (imP T r n code i).2 i else imP T r n code i := rfl
      have em : emP T r n i = true := decide_eq_true (Or.inl (by omega))
      have hs : ∀ e, (stP T r n code e i).1 = decide (dig code i = 7) := by
        intro e
        unfold stP
        rw [em, Bool.true_or, if_pos rfl, Bool.true_and, decide_eq_true (show n ≤ i by omega), Bool.true_or, Bool.and_true]
      rw [hy]
      by_cases hm : (imP T r n code i).1 = true
      · rw [if_pos hm, hs, decide_eq_true_eq]
        have hm2 := ih.mp hm
        constructor
        · intro h7
          refine ⟨hm2.1, fun j h1 h2 => ?_⟩
          by_cases e2 : j = i
          · rw [e2]; exact h7
          · exact hm2.2 j h1 (by omega)
        · intro h2
          exact h2.2 i (by omega) (by omega)
      · rw [if_neg hm]
        exact ⟨fun h => absurd h hm, fun h => absurd (ih.mpr ⟨h.1, fun j h1 h2 => h.2 j h1 (by omega)⟩) hm⟩
theorem sev_iff {n code : Nat} (hn : n ≤ 3) (hc : code < 512) : (∀ j, n ≤ j → j < 3 → dig code j = 7) ↔ 512 - 8 ^ n ≤ code := by
  have d0 : dig code 0 = code % 8 := by
    unfold dig
    rw [Nat.pow_zero, Nat.div_one]
  have d1 : dig code 1 = code / 8 % 8 := rfl
  have d2 : dig code 2 = code / 64 % 8 := rfl
  constructor
  · intro h
    rcases (show n = 0 ∨ n = 1 ∨ n = 2 ∨ n = 3 by omega) with rfl | rfl | rfl | rfl
    · have h0 := h 0 (by omega) (by omega)
      have h1 := h 1 (by omega) (by omega)
      have h2 := h 2 (by omega) (by omega)
      show 512 - 1 ≤ code
      omega
    · have h1 := h 1 (by omega) (by omega)
      have h2 := h 2 (by omega) (by omega)
      show 512 - 8 ≤ code
      omega
    · have h2 := h 2 (by omega) (by omega)
      show 512 - 64 ≤ code
      omega
    · show 512 - 512 ≤ code
      omega
  · intro h j h1 h2
    rcases (show n = 0 ∨ n = 1 ∨ n = 2 ∨ n = 3 by omega) with rfl | rfl | rfl | rfl <;> simp only [Nat.reducePow] at h <;> rcases (show j = 0 ∨ j = 1 ∨ j = 2 by omega) with rfl | rfl | rfl <;> omega
theorem dig_off {n c i : Nat} (hn : n ≤ 3) (hc : c < 8 ^ n) (hi : i < n) : dig (512 - 8 ^ n + c) i = dig c i := by
  rcases (show n = 0 ∨ n = 1 ∨ n = 2 ∨ n = 3 by omega) with rfl | rfl | rfl | rfl
  · omega
  · have : i = 0 := by omega
    subst this
    show (504 + c) / 8 ^ 0 % 8 = c / 8 ^ 0 % 8
    simp only [Nat.pow_zero, Nat.div_one]
    omega
  · rcases (show i = 0 ∨ i = 1 by omega) with rfl | rfl
    · show (448 + c) / 8 ^ 0 % 8 = c / 8 ^ 0 % 8
      simp only [Nat.pow_zero, Nat.div_one]
      omega
    · show (448 + c) / 8 % 8 = c / 8 % 8
      omega
  · show dig (0 + c) i = dig c i
    rw [Nat.zero_add]
theorem imB_lo {T : ES} {r n code : Nat} (hn : n ≤ 3) (hc : code < 512 - 8 ^ n) : imB T r n code = false := by
  refine Bool.eq_false_iff.mpr (fun h => ?_)
  have := (sev_iff hn (Nat.lt_of_lt_of_le hc (Nat.sub_le _ _))).mp ((im_tail (T := T) (r := r) (code := code) hn).mp h).2
  omega
theorem imB_hi {S T : ES} (ho : eOK S) (hR : rel S T) {r n c : Nat} (hn : n ≤ 3) (hc : c < 8 ^ n) : imB T r n (512 - 8 ^ n + c) = (mtP S r c n).1 := by
  have p8 := p8_le hn
  rw [← mt_dig (S := S) (r := r) (c := 512 - 8 ^ n + c) (c' := c) (fun i hi => dig_off hn hc hi), ← (im_mt ho hR (r := r) (n := n) (code := 512 - 8 ^ n + c) (Nat.le_refl n)).1]
  refine Bool.eq_iff_iff.mpr ⟨fun h => ((im_tail hn).mp h).1, fun h => (im_tail hn).mpr ⟨h, (sev_iff hn (by omega)).mpr (by omega)⟩⟩
/-! counting -/
theorem ct_split (p : Nat → Bool) (m : Nat) : ∀ n, ctP p (m + n) = ctP p m + ctP (fun k => p (m + k)) n
  | 0 => rfl
  | n + 1 => by
    show ctP p (m + n) + (p (m + n)).toNat = ctP p m + (ctP (fun k => p (m + k)) n + (p (m + n)).toNat)
    rw [ct_split p m n, Nat.add_assoc]
theorem ct_cong {p q : Nat → Bool} : ∀ {n : Nat}, (∀ k, k < n → p k = q k) → ctP p n = ctP q n
  | 0, _ => rfl
  | n + 1, h => by
    show ctP p n + (p n).toNat = ctP q n + (q n).toNat
    rw [ct_cong (fun k hk => h k (by omega)), h n (by omega)]
theorem ct_zero {p : Nat → Bool} : ∀ {n : Nat}, (∀ k, k < n → p k = false) → ctP p n = 0
  | 0, _ => rfl
  | n + 1, h => by
    show ctP p n + (p n).toNat = 0
    rw [ct_zero (fun k hk => h k (by omega)), h n (by omega)]
    rfl
theorem ct_mono {p : Nat → Bool} {i j : Nat} (h : i < j) (hi : p i = true) : ctP p i < ctP p j := by
  induction j with
  | zero => exact absurd h (Nat.not_lt_zero i)
  | succ j ih =>
    show ctP p i < ctP p j + (p j).toNat
    by_cases e : i = j
    · rw [← e, hi]
      exact Nat.lt_succ_self _
    · have := ih (by omega)
      omega
theorem ct_one {p : Nat → Bool} {i j : Nat} (hi : p i = true) (hj : p j = true) (e : ctP p i = ctP p j) : i = j := by
  rcases Nat.lt_trichotomy i j with h | h | h
  · have := ct_mono h hi
    omega
  · exact h
  · have := ct_mono h hj
    omega
/-- a table over 512 codes whose first ones are empty, against the table of its last ones -/
theorem ct_512 {p q : Nat → Bool} {n : Nat} (hn : n ≤ 3) (h0 : ∀ c, c < 512 - 8 ^ n → p c = false) (h1 : ∀ c, c < 8 ^ n → p (512 - 8 ^ n + c) = q c) {m : Nat} (hm : m ≤ 8 ^ n) : ctP p (512 - 8 ^ n + m) = ctP q m := by
  rw [ct_split, ct_zero h0, Nat.zero_add]
  exact ct_cong (fun k hk => h1 k (by omega))
theorem cnt_eq {S T : ES} (hI : eI S) (hR : rel S T) {a n : Nat} (ha : a < 3) (hn : n ≤ S 4 a) : cntM T a n = cntE S a n := by
  have h4 : S 4 a < 4 := hI.1 4 a
  have p8 := p8_le (L := n) (by omega)
  have h := ct_512 (p := fun c => imB T a n c) (q := fun c => bitW (S 9) a n c) (n := n) (by omega) (fun c hc => imB_lo (by omega) hc) (fun c hc => (imB_hi hI.1 hR (by omega) hc).trans (hI.2 a ha n c hn hc).symm) (Nat.le_refl _)
  unfold cntM cntE
  rw [← h]
  congr 1
  omega
theorem mt_eq {S T : ES} (hI : eI S) (hR : rel S T) (x : Int32) : mtE S x = mtM T x := by
  unfold mtE mtM
  by_cases h : isR x = true
  · rw [if_pos h, if_pos h]
    have h2 : 0 ≤ x.toInt ∧ x.toInt < 3 := of_decide_eq_true h
    rw [← hR.2.2.2.2.1, cnt_eq hI hR (by omega) (Nat.le_refl _)]
  · rw [if_neg h, if_neg h]
theorem pa_eq {S T : ES} (hI : eI S) (hR : rel S T) (x y : Int32) : paE S x y = paM T x y := by
  unfold paE paM
  rw [← hR.2.2.2.2.1]
  by_cases h : isR x = true ∧ 0 ≤ y.toInt ∧ y.toInt ≤ S 4 x.toInt.toNat
  · rw [if_pos h, if_pos h]
    have h2 : 0 ≤ x.toInt ∧ x.toInt < 3 := of_decide_eq_true h.1
    rw [cnt_eq hI hR (by omega) (by omega)]
  · rw [if_neg h, if_neg h]
theorem kth_one {p q : Nat → Bool} {n : Nat} (hn : n ≤ 3) (h0 : ∀ c, c < 512 - 8 ^ n → p c = false) (h1 : ∀ c, c < 8 ^ n → p (512 - 8 ^ n + c) = q c) {k r1 r2 : Int32} (a : kthR q (8 ^ n) k (512 - 8 ^ n) r1) (b : kthR p 512 k 0 r2) : r1 = r2 := by
  have p8 := p8_le hn
  have inj : ∀ {i j : Nat}, i ≤ 512 → j ≤ 512 → nI i = nI j → i = j := by
    intro i j hi hj e
    have := congrArg Int32.toInt e
    rw [toInt_nI (by omega), toInt_nI (by omega)] at this
    omega
  have up : ∀ i, i < 512 → p i = true → ∃ j, j < 8 ^ n ∧ i = 512 - 8 ^ n + j ∧ q j = true := by
    intro i hi hp
    rcases Nat.lt_or_ge i (512 - 8 ^ n) with h | h
    · rw [h0 i h] at hp
      cases hp
    · refine ⟨i - (512 - 8 ^ n), by omega, by omega, ?_⟩
      rw [← h1 _ (by omega), show 512 - 8 ^ n + (i - (512 - 8 ^ n)) = i by omega]
      exact hp
  rcases a with ⟨i, a1, a2, a3, a4⟩ | ⟨a1, a2⟩
  · rcases b with ⟨i', b1, b2, b3, b4⟩ | ⟨b1, b2⟩
    · obtain ⟨j, j1, j2, j3⟩ := up i' b1 b2
      rw [j2, ct_512 hn h0 h1 (by omega)] at b3
      have e := inj (Nat.le_trans (ctP_le q i) (by omega)) (Nat.le_trans (ctP_le q j) (by omega)) (a3.symm.trans b3)
      have e2 := ct_one a2 j3 e
      rw [a4, b4, j2, e2, Nat.zero_add]
    · exact absurd (by rw [ct_512 hn h0 h1 (by omega)]; exact a3) (b1 (512 - 8 ^ n + i) (by omega) (by rw [h1 i a1]; exact a2))
  · rcases b with ⟨i', b1, b2, b3, b4⟩ | ⟨b1, b2⟩
    · obtain ⟨j, j1, j2, j3⟩ := up i' b1 b2
      rw [j2, ct_512 hn h0 h1 (by omega)] at b3
      exact absurd b3 (a1 j j1 j3)
    · rw [a2, b2]
theorem nI_inj3 {a b : Nat} (ha : a < 2 ^ 31) (hb : b < 2 ^ 31) (e : nI a = nI b) : a = b := by
  have := congrArg Int32.toInt e
  rw [toInt_nI ha, toInt_nI hb] at this
  omega
theorem mch_eq {S T : ES} (hI : eI S) (hR : rel S T) {x k r1 r2 : Int32} (a : mchE S x k r1) (b : mchM T x k r2) : r1 = r2 := by
  rcases a with ⟨a1, a2⟩ | ⟨n, n1, n2, n3⟩
  · rcases b with ⟨b1, b2⟩ | ⟨n', m1, m2, m3⟩
    · rw [a2, b2]
    · rw [m2, isR_n m1] at a1
      cases a1
  · rcases b with ⟨b1, b2⟩ | ⟨n', m1, m2, m3⟩
    · rw [n2, isR_n n1] at b1
      cases b1
    · have e : n = n' := nI_inj3 (by omega) (by omega) (n2.symm.trans m2)
      subst e
      rw [← hR.2.2.2.2.1] at m3
      have h4 : S 4 n < 4 := hI.1 4 n
      exact kth_one (by omega) (fun c hc => imB_lo (by omega) hc) (fun c hc => (imB_hi hI.1 hR (by omega) hc).trans (hI.2 n n1 _ c (Nat.le_refl _) hc).symm) n3 m3
theorem rd_cong {b b' : Nat → Bool} : ∀ {n : Nat}, (∀ k, k < n → b k = b' k) → rdP b n = rdP b' n
  | 0, _ => rfl
  | n + 1, h => by
    unfold rdP
    rw [rd_cong (fun k hk => h k (by omega)), h n (by omega)]
theorem rd_eq {S T : ES} (hI : eI S) (hR : rel S T) : rdP (fun a => decide (0 < cntE S a (S 4 a))) 3 = rdP (fun a => decide (0 < cntM T a (T 5 a))) 3 := by
  refine rd_cong (fun a ha => ?_)
  show decide (0 < cntE S a (S 4 a)) = decide (0 < cntM T a (T 5 a))
  rw [← hR.2.2.2.2.1, cnt_eq hI hR ha (Nat.le_refl _)]
theorem fc_all : ∀ p, p < 128 → rdP (fun f => p.testBit f) 7 = p := by decide +kernel
theorem fc_eq {S T : ES} (ho : eOK S) (hR : rel S T) : fcM T = S 0 0 := by
  unfold fcM
  rw [← fc_all (S 0 0) (ho 0 0)]
  refine rd_cong (fun f hf => ?_)
  exact (hR.1 f hf).symm
theorem th_eq {S T : ES} (hR : rel S T) (x : Int32) : hasI S x = thI T x := by
  unfold hasI thI
  by_cases h : 0 ≤ x.toInt ∧ x.toInt < 7
  · rw [decide_eq_true h, decide_eq_true (show 0 ≤ x.toInt ∧ x.toInt ≤ 6 by omega), Bool.true_and, Bool.true_and]
    exact hR.1 _ (by omega)
  · rw [decide_eq_false h, decide_eq_false (show ¬ (0 ≤ x.toInt ∧ x.toInt ≤ 6) by omega)]
    rfl
theorem hs_hol {n c f : Nat} (hn : n ≤ 3) (hc : c < 8 ^ n) (hf : f < 7) : hs3 (512 - 8 ^ n + c) f = holP c f n := by
  have d0 : dig c 0 = c % 8 := by
    unfold dig
    rw [Nat.pow_zero, Nat.div_one]
  have d1 : dig c 1 = c / 8 % 8 := rfl
  have d2 : dig c 2 = c / 64 % 8 := rfl
  refine Bool.eq_iff_iff.mpr ?_
  unfold hs3
  rcases (show n = 0 ∨ n = 1 ∨ n = 2 ∨ n = 3 by omega) with rfl | rfl | rfl | rfl
  · simp only [Nat.reducePow] at hc ⊢
    simp only [holP, decide_eq_true_eq, Bool.false_eq_true]
    exact ⟨fun h => absurd h (by omega), fun h => h.elim⟩
  · simp only [Nat.reducePow] at hc ⊢
    simp only [holP, decide_eq_true_eq, Bool.false_or, d0]
    omega
  · simp only [Nat.reducePow] at hc ⊢
    simp only [holP, decide_eq_true_eq, Bool.false_or, Bool.or_eq_true, d0, d1]
    omega
  · simp only [Nat.reducePow] at hc ⊢
    simp only [holP, decide_eq_true_eq, Bool.false_or, Bool.or_eq_true, d0, d1, d2]
    omega
theorem us_blk {S T : ES} (hI : eI S) (hR : rel S T) {f r : Nat} (hf : f < 7) (hr : r < 3) : ctP (fun c => hs3 ((512 * r + c) % 512) f && imB T ((512 * r + c) / 512) (T 5 ((512 * r + c) / 512)) ((512 * r + c) % 512)) 512 = ctP (fun c => bitW (S 9) r (S 4 r) c && holP c f (S 4 r)) (8 ^ S 4 r) := by
  have h4 : S 4 r < 4 := hI.1 4 r
  have p8 := p8_le (L := S 4 r) (by omega)
  have e1 : ctP (fun c => hs3 ((512 * r + c) % 512) f && imB T ((512 * r + c) / 512) (T 5 ((512 * r + c) / 512)) ((512 * r + c) % 512)) 512 = ctP (fun c => hs3 c f && imB T r (S 4 r) c) 512 := by
    refine ct_cong (fun c hc => ?_)
    show (hs3 ((512 * r + c) % 512) f && imB T ((512 * r + c) / 512) (T 5 ((512 * r + c) / 512)) ((512 * r + c) % 512)) = (hs3 c f && imB T r (S 4 r) c)
    rw [show (512 * r + c) % 512 = c by omega, show (512 * r + c) / 512 = r by omega, hR.2.2.2.2.1]
  have h := ct_512 (p := fun c => hs3 c f && imB T r (S 4 r) c) (q := fun c => bitW (S 9) r (S 4 r) c && holP c f (S 4 r)) (n := S 4 r) (by omega) (fun c hc => ?_) (fun c hc => ?_) (Nat.le_refl _)
  · rw [e1, ← h]
    congr 1
    omega
  · show (hs3 c f && imB T r (S 4 r) c) = false
    rw [imB_lo (by omega) hc, Bool.and_false]
  · show (hs3 (512 - 8 ^ S 4 r + c) f && imB T r (S 4 r) (512 - 8 ^ S 4 r + c)) = (bitW (S 9) r (S 4 r) c && holP c f (S 4 r))
    rw [hs_hol (by omega) hc hf, imB_hi hI.1 hR (by omega) hc, ← hI.2 r hr _ c (Nat.le_refl _) hc, Bool.and_comm]
theorem us_eq {S T : ES} (hI : eI S) (hR : rel S T) (x : Int32) : usI S x = usM T x := by
  unfold usI usM
  rw [← th_eq hR]
  by_cases h : hasI S x = true
  · rw [if_pos h, if_pos h]
    have hx : 0 ≤ x.toInt ∧ x.toInt < 7 := of_decide_eq_true (Bool.and_eq_true_iff.mp h).1
    have hf : x.toInt.toNat < 7 := by omega
    generalize x.toInt.toNat = f at hf
    congr 1
    have b0 := us_blk hI hR (r := 0) hf (by decide)
    have b1 := us_blk hI hR (r := 1) hf (by decide)
    have b2 := us_blk hI hR (r := 2) hf (by decide)
    show 0 + _ + _ + _ = _
    rw [← b0, ← b1, ← b2, show 1536 = 512 + (512 + 512) from rfl, ct_split, ct_split]
    rw [Nat.zero_add, Nat.add_assoc]
    rw [ct_cong (p := fun c => hs3 ((512 * 0 + c) % 512) f && imB T ((512 * 0 + c) / 512) (T 5 ((512 * 0 + c) / 512)) ((512 * 0 + c) % 512)) (q := fun c => hs3 (c % 512) f && imB T (c / 512) (T 5 (c / 512)) (c % 512)) (fun c _ => by simp only [Nat.mul_zero, Nat.zero_add])]
    congr 2
  · rw [if_neg h, if_neg h]
theorem ml_eq {S T : ES} (hR : rel S T) {f cell : Nat} (hf : f < 7) : (hsN S f && lrP S cell f) = mlP T (T 6 cell) f := by
  obtain ⟨r0, r1, r2, r3, r4, r5⟩ := hR
  obtain ⟨c5, c6, c7, c8⟩ := r5 cell
  unfold lrP mlP conB
  rw [r0 f hf, ← r1, ← r2, ← r3, ← c5, ← c6, ← c7]
  rw [show decide (4 ≤ S 6 cell ∨ S 6 cell = S 2 f) = decide (3 < S 6 cell ∨ S 6 cell = S 2 f) from decide_eq_decide.mpr (by omega), show decide (4 ≤ S 7 cell ∨ S 7 cell = S 3 f) = decide (3 < S 7 cell ∨ S 7 cell = S 3 f) from decide_eq_decide.mpr (by omega)]
  simp only [Bool.and_assoc]
theorem ft_eq {S T : ES} (hR : rel S T) (x y : Int32) : ftE S x y = ftM T x y := by
  unfold ftE ftM
  rw [← hR.2.2.2.2.1]
  by_cases h : isR x = true ∧ 0 ≤ y.toInt ∧ y.toInt < S 4 x.toInt.toNat
  · rw [if_pos h, if_pos h]
    congr 1
    refine ct_cong (fun f hf => ?_)
    rw [show 3 * x.toInt.toNat = x.toInt.toNat * 3 from Nat.mul_comm _ _]
    exact ml_eq hR hf
  · rw [if_neg h, if_neg h]
end
section
/-! THE PLAIN LAW, V: the changes keep engine and model together, and answer the same -/
set_option maxRecDepth 100000
theorem rel_c {S S' T : ES} (h : ∀ i, i < 9 → S' i = S i) (hR : rel S T) : rel S' T := by
  obtain ⟨r0, r1, r2, r3, r4, r5⟩ := hR
  refine ⟨fun f hf => by rw [hsN_c h]; exact r0 f hf, by rw [h 1 (by decide)]; exact r1, by rw [h 2 (by decide)]; exact r2, by rw [h 3 (by decide)]; exact r3, by rw [h 4 (by decide)]; exact r4, fun c => ?_⟩
  rw [h 5 (by decide), h 6 (by decide), h 7 (by decide), h 8 (by decide)]
  exact r5 c
theorem rel_m {S T T' : ES} (h : eqm T T') (hR : rel S T) : rel S T' := by
  obtain ⟨r0, r1, r2, r3, r4, r5⟩ := hR
  unfold rel
  rw [h 1 (by decide), h 2 (by decide), h 3 (by decide), h 4 (by decide), h 5 (by decide), h 6 (by decide)]
  exact ⟨r0, r1, r2, r3, r4, r5⟩
theorem cd_ok {a w : Nat} (ha : a < 3) (hw : w < 512) (hk : w % 4 ≤ 2) : isR (nI a) = true ∧ 0 ≤ (nI w).toInt ∧ (nI w).toInt ≤ 511 ∧ (nI w).toInt.toNat % 4 ≤ 2 := by
  refine ⟨isR_n ha, ?_, ?_, ?_⟩
  · rw [toInt_nI (by omega)]; omega
  · rw [toInt_nI (by omega)]; omega
  · rw [tn_nI (by omega)]; exact hk
theorem cd_rel {S T : ES} (hR : rel S T) {a w : Nat} : rel (cdS S a w) (up2 (up2 T 6 (3 * a + T 5 a) w) 5 a (T 5 a + 1)) := by
  obtain ⟨r0, r1, r2, r3, r4, r5⟩ := hR
  have hcell : 3 * a + T 5 a = a * 3 + S 4 a := by rw [r4, Nat.mul_comm]
  rw [hcell]
  refine ⟨fun f hf => ?_, ?_, ?_, ?_, ?_, fun c => ?_⟩
  · have : hsN (cdS S a w) f = hsN S f := by
      unfold hsN cdS
      rw [up2_n (by decide), up2_n (by decide), up2_n (by decide), up2_n (by decide), up2_n (by decide)]
    rw [this, up2_n (by decide), up2_n (by decide)]
    exact r0 f hf
  · unfold cdS
    rw [up2_n (by decide), up2_n (by decide), up2_n (by decide), up2_n (by decide), up2_n (by decide), up2_n (by decide), up2_n (by decide)]
    exact r1
  · unfold cdS
    rw [up2_n (by decide), up2_n (by decide), up2_n (by decide), up2_n (by decide), up2_n (by decide), up2_n (by decide), up2_n (by decide)]
    exact r2
  · unfold cdS
    rw [up2_n (by decide), up2_n (by decide), up2_n (by decide), up2_n (by decide), up2_n (by decide), up2_n (by decide), up2_n (by decide)]
    exact r3
  · unfold cdS
    rw [up2_s, up2_s, up2_n (by decide), up2_n (by decide), up2_n (by decide), up2_n (by decide), up2_n (by decide), r4]
  · have e5 : cdS S a w 5 = updN (S 5) (a * 3 + S 4 a) (w % 4) := by
      unfold cdS
      rw [up2_n (by decide), up2_n (by decide), up2_n (by decide), up2_n (by decide), up2_s]
    have e6 : cdS S a w 6 = updN (S 6) (a * 3 + S 4 a) (w / 4 % 8) := by
      unfold cdS
      rw [up2_n (by decide), up2_n (by decide), up2_n (by decide), up2_s, up2_n (by decide)]
    have e7 : cdS S a w 7 = updN (S 7) (a * 3 + S 4 a) (w / 32 % 8) := by
      unfold cdS
      rw [up2_n (by decide), up2_n (by decide), up2_s, up2_n (by decide), up2_n (by decide)]
    have e8 : cdS S a w 8 = updN (S 8) (a * 3 + S 4 a) (decide (256 ≤ w)).toNat := by
      unfold cdS
      rw [up2_n (by decide), up2_s, up2_n (by decide), up2_n (by decide), up2_n (by decide)]
    rw [e5, e6, e7, e8, up2_n (by decide), up2_s]
    by_cases e : c = a * 3 + S 4 a
    · rw [e, updN_s, updN_s, updN_s, updN_s, updN_s]
      exact ⟨rfl, rfl, rfl, rfl⟩
    · rw [updN_n e, updN_n e, updN_n e, updN_n e, updN_n e]
      exact r5 c
theorem cd_eq {S S' T T' : ES} {x y r1 r2 : Int32} (hI : eI S) (hR : rel S T) (a : cdR S x y r1 S') (b : mcR T x y r2 T') : r1 = r2 ∧ eI S' ∧ rel S' T' := by
  have r4 := hR.2.2.2.2.1
  rcases a with ⟨a1, a2, a3⟩ | ⟨n, w, n1, n2, n3, n4, n5, n6⟩
  · rcases b with ⟨b1, b2, b3⟩ | ⟨m, v, m1, m2, m3, m4, m5, m6⟩
    · rw [a2, b2, a3, b3]
      exact ⟨rfl, hI, hR⟩
    · rw [m4, m5] at a1
      exact absurd (cd_ok m1 m2 m3) a1
  · rcases b with ⟨b1, b2, b3⟩ | ⟨m, v, m1, m2, m3, m4, m5, m6⟩
    · rw [n4, n5] at b1
      exact absurd (cd_ok n1 n2 n3) b1
    · have e1 : n = m := nI_inj3 (by omega) (by omega) (n4.symm.trans m4)
      have e2 : w = v := nI_inj3 (by omega) (by omega) (n5.symm.trans m5)
      subst e1
      subst e2
      rcases n6 with ⟨p1, p2, p3⟩ | ⟨p1, p2, p3⟩
      · rcases m6 with ⟨q1, q2, q3⟩ | ⟨q1, q2, q3⟩
        · rw [p2, q2, p3, q3]
          exact ⟨rfl, hI, hR⟩
        · rw [← r4] at q1
          omega
      · rcases m6 with ⟨q1, q2, q3⟩ | ⟨q1, q2, q3⟩
        · rw [← r4] at q1
          omega
        · refine ⟨by rw [p2, q2, r4], cd_I hI p1 p3, ?_⟩
          rw [q3]
          exact rel_c p3.2.1 (cd_rel hR)
theorem dp_eq {S S' T T' : ES} {x r1 r2 : Int32} (hI : eI S) (hR : rel S T) (a : dpR S x r1 S') (b : mdR T x r2 T') : r1 = r2 ∧ eI S' ∧ rel S' T' := by
  have r4 := hR.2.2.2.2.1
  rcases a with ⟨a1, a2, a3⟩ | ⟨n, n1, n2, n3⟩
  · rcases b with ⟨b1, b2, b3⟩ | ⟨m, m1, m2, m3⟩
    · rw [a2, b2, a3, b3]
      exact ⟨rfl, hI, hR⟩
    · rw [m2, isR_n m1] at a1
      cases a1
  · rcases b with ⟨b1, b2, b3⟩ | ⟨m, m1, m2, m3⟩
    · rw [n2, isR_n n1] at b1
      cases b1
    · have e1 : n = m := nI_inj3 (by omega) (by omega) (n2.symm.trans m2)
      subst e1
      rcases n3 with ⟨p1, p2, p3⟩ | ⟨p1, p2, p3⟩
      · rcases m3 with ⟨q1, q2, q3⟩ | ⟨q1, q2, q3⟩
        · rw [p2, q2, p3, q3]
          exact ⟨rfl, hI, hR⟩
        · rw [← r4] at q1
          omega
      · rcases m3 with ⟨q1, q2, q3⟩ | ⟨q1, q2, q3⟩
        · rw [← r4] at q1
          omega
        · refine ⟨by rw [p2, q2, r4], dp_I hI p3, ?_⟩
          rw [q3]
          refine rel_c p3.2.1 ?_
          obtain ⟨r0, r1', r2', r3', r4', r5'⟩ := hR
          refine ⟨fun f hf => ?_, ?_, ?_, ?_, ?_, fun c => ?_⟩
          · have : hsN (up2 S 4 n (S 4 n - 1)) f = hsN S f := by
              unfold hsN
              rw [up2_n (by decide)]
            rw [this, up2_n (by decide)]
            exact r0 f hf
          · rw [up2_n (by decide), up2_n (by decide)]; exact r1'
          · rw [up2_n (by decide), up2_n (by decide)]; exact r2'
          · rw [up2_n (by decide), up2_n (by decide)]; exact r3'
          · rw [up2_s, up2_s, r4']
          · rw [up2_n (by decide), up2_n (by decide), up2_n (by decide), up2_n (by decide), up2_n (by decide)]
            exact r5' c
theorem fOk_n {k a b : Nat} (hk : k < 3) (ha : a < 4) (hb : b < 4) : fOk (nI k) (nI a) (nI b) = true := by
  unfold fOk
  rw [toInt_nI (by omega), toInt_nI (by omega), toInt_nI (by omega)]
  exact decide_eq_true (by omega)
theorem ad_rel {S T : ES} (hR : rel S T) {f k a b : Nat} (hn : hsN S f = false) : rel (adS S f k a b) (maS T f k a b) := by
  obtain ⟨o1, o2, o3, o4, o5⟩ := old_add (k := k) (a := a) (b := b) hn
  obtain ⟨r0, r1, r2, r3, r4, r5⟩ := hR
  refine ⟨fun g hg => ?_, ?_, ?_, ?_, ?_, fun c => ?_⟩
  · have e1 : maS T f k a b 1 = updN (T 1) f 1 := by
      unfold maS
      rw [up2_n (by decide), up2_n (by decide), up2_n (by decide), up2_s]
    rw [e1]
    by_cases e : g = f
    · subst e
      rw [updN_s, o4]
      rfl
    · rw [updN_n e, ← (o2 g e).1]
      exact r0 g hg
  · unfold adS maS
    rw [up2_n (by decide), up2_n (by decide), up2_s, up2_n (by decide), up2_n (by decide), up2_n (by decide), up2_s, up2_n (by decide), r1]
  · unfold adS maS
    rw [up2_n (by decide), up2_s, up2_n (by decide), up2_n (by decide), up2_n (by decide), up2_s, up2_n (by decide), up2_n (by decide), r2]
  · unfold adS maS
    rw [up2_s, up2_n (by decide), up2_n (by decide), up2_n (by decide), up2_s, up2_n (by decide), up2_n (by decide), up2_n (by decide), r3]
  · rw [← o1 4 (by decide) (by decide)]
    unfold maS
    rw [up2_n (by decide), up2_n (by decide), up2_n (by decide), up2_n (by decide)]
    exact r4
  · rw [← o1 5 (by decide) (by decide), ← o1 6 (by decide) (by decide), ← o1 7 (by decide) (by decide), ← o1 8 (by decide) (by decide)]
    unfold maS
    rw [up2_n (by decide), up2_n (by decide), up2_n (by decide), up2_n (by decide)]
    exact r5 c
theorem ad_eq {S S' T T' : ES} {x y z r1 r2 : Int32} (hI : eI S) (hR : rel S T) (a : adR S x y z r1 S') (b : maR T x y z r2 T') : r1 = r2 ∧ eI S' ∧ rel S' T' := by
  have r0 := hR.1
  rcases a with ⟨a1, a2, a3⟩ | ⟨k, p, q, k1, k2, k3, k4, k5, k6, k7⟩
  · rcases b with ⟨b1, b2, b3⟩ | ⟨k', p', q', m1, m2, m3, m4, m5, m6, m7⟩
    · rw [a2, b2, a3, b3]
      exact ⟨rfl, hI, hR⟩
    · rw [m4, m5, m6, fOk_n m1 m2 m3] at a1
      cases a1
  · rcases b with ⟨b1, b2, b3⟩ | ⟨k', p', q', m1, m2, m3, m4, m5, m6, m7⟩
    · rw [k4, k5, k6, fOk_n k1 k2 k3] at b1
      cases b1
    · have e1 : k = k' := nI_inj3 (by omega) (by omega) (k4.symm.trans m4)
      have e2 : p = p' := nI_inj3 (by omega) (by omega) (k5.symm.trans m5)
      have e3 : q = q' := nI_inj3 (by omega) (by omega) (k6.symm.trans m6)
      subst e1
      subst e2
      subst e3
      have tt : ∀ g, g < 7 → (hsN S g = true ↔ ¬ T 1 g = 0) := fun g hg => by rw [r0 g hg, decide_eq_true_eq]
      have ff : ∀ g, g < 7 → (hsN S g = false ↔ T 1 g = 0) := fun g hg => by rw [r0 g hg, decide_eq_false_iff_not, Classical.not_not]
      rcases k7 with ⟨u1, u2, u3⟩ | ⟨f, u1, u2, u3, u4, u5⟩
      · rcases m7 with ⟨v1, v2, v3⟩ | ⟨f', v1, v2, v3, v4, v5⟩
        · rw [u2, v2, u3, v3]
          exact ⟨rfl, hI, hR⟩
        · exact absurd v3 ((tt f' v1).mp (u1 f' v1))
      · rcases m7 with ⟨v1, v2, v3⟩ | ⟨f', v1, v2, v3, v4, v5⟩
        · exact absurd ((ff f u1).mp u3) (v1 f u1)
        · have e : f = f' := by
            rcases Nat.lt_trichotomy f f' with h | h | h
            · exact absurd ((ff f u1).mp u3) (v2 f h)
            · exact h
            · exact absurd v3 ((tt f' v1).mp (u2 f' h))
          subst e
          refine ⟨by rw [u4, v4], ad_I hI u1 k1 k2 k3 u3 u5, ?_⟩
          rw [v5]
          exact rel_c (up3_st u5) (ad_rel hR u3)
theorem rm_eq {S S' T T' : ES} {x r1 r2 : Int32} (hI : eI S) (hR : rel S T) (a : rmR S x r1 S') (b : mrR T x r2 T') : r1 = r2 ∧ eI S' ∧ rel S' T' := by
  have th := th_eq hR x
  rcases a with ⟨a1, a2, a3⟩ | ⟨f, u1, u2, u3, u4, u5⟩
  · rcases b with ⟨b1, b2, b3⟩ | ⟨f', v1, v2, v3, v4, v5⟩
    · rw [a2, b2, a3, b3]
      exact ⟨rfl, hI, hR⟩
    · rw [th, v2, thI_n v1, decide_eq_true v3] at a1
      cases a1
  · rcases b with ⟨b1, b2, b3⟩ | ⟨f', v1, v2, v3, v4, v5⟩
    · rw [← th, u2, hasI_n u1, u3] at b1
      cases b1
    · have e : f = f' := nI_inj3 (by omega) (by omega) (u2.symm.trans v2)
      subst e
      refine ⟨by rw [u4, v4], rm_I hI u1 u3 u5, ?_⟩
      rw [v5]
      refine rel_c (up3_st u5) ?_
      obtain ⟨r0, r1', r2', r3', r4', r5'⟩ := hR
      refine ⟨fun g hg => ?_, ?_, ?_, ?_, ?_, fun c => ?_⟩
      · rw [clr_h hI.1 u1 u3 g, up2_s]
        by_cases e : g = f
        · rw [e, updN_s, decide_eq_true rfl]
          simp
        · rw [updN_n e, decide_eq_false e, r0 g hg]
          simp
      · rw [up2_n (by decide), up2_n (by decide)]; exact r1'
      · rw [up2_n (by decide), up2_n (by decide)]; exact r2'
      · rw [up2_n (by decide), up2_n (by decide)]; exact r3'
      · rw [up2_n (by decide), up2_n (by decide)]; exact r4'
      · rw [up2_n (by decide), up2_n (by decide), up2_n (by decide), up2_n (by decide), up2_n (by decide)]
        exact r5' c
theorem ef_eq {S S' T T' : ES} {x y z w r1 r2 : Int32} (hI : eI S) (hR : rel S T) (a : efR S x y z w r1 S') (b : meR T x y z w r2 T') : r1 = r2 ∧ eI S' ∧ rel S' T' := by
  have hf := fc_eq hI.1 hR
  rcases a with ⟨a1, a2, a3⟩ | ⟨a1, a2, a3, S1, f, q, a4, a5, a6, a7⟩
  · rcases b with ⟨b1, b2, b3⟩ | ⟨b1, b2, b3, T0, T1, T2, f', q', b4, b5, b6, b7, b8⟩
    · rw [a2, b2, a3, b3]
      exact ⟨rfl, hI, hR⟩
    · rw [hf] at b3
      rcases a1 with h | h | h
      · rw [b1] at h; cases h
      · rw [b2] at h; cases h
      · exact absurd h b3
  · rcases b with ⟨b1, b2, b3⟩ | ⟨b1, b2, b3, T0, T1, T2, f', q', b4, b5, b6, b7, b8⟩
    · rw [hf] at b1
      rcases b1 with h | h | h
      · rw [a1] at h; cases h
      · rw [a2] at h; cases h
      · exact absurd h a3
    · obtain ⟨e1, I1, R1⟩ := ad_eq hI (rel_m b4 hR) a4 b5
      subst e1
      obtain ⟨e2, I2, R2⟩ := rm_eq I1 (rel_m b6 R1) a6 b7
      refine ⟨?_, I2, R2⟩
      rw [a7, b8, mt_eq I1 R1, mt_eq hI hR]
/-- the start: nothing there -/
def eZ : ES := fun i j => if i = 9 then (if j = 0 ∨ j = 11 ∨ j = 22 then 1 else 0) else 0
def mZ : ES := fun _ _ => 0
theorem eZ_ok : eOK eZ := by
  intro i j
  unfold eZ
  by_cases h : i = 9
  · subst h
    rw [if_pos rfl]
    show _ < 2 ^ 64
    split <;> decide
  · rw [if_neg h]
    unfold eB
    split <;> decide
theorem mZ_ok : mOK mZ := by
  intro i j
  show 0 < mB i
  unfold mB
  split <;> decide
theorem Z_I : eI eZ := by
  refine ⟨eZ_ok, fun r hr L c hL hc => ?_⟩
  have h4 : eZ 4 r = 0 := rfl
  rw [h4] at hL
  have e : L = 0 := by omega
  subst e
  have hc0 : c = 0 := by simpa using hc
  subst hc0
  rcases (show r = 0 ∨ r = 1 ∨ r = 2 by omega) with rfl | rfl | rfl <;> rfl
theorem Z_rel : rel eZ mZ := ⟨fun f _ => by
  show (0 : Nat).testBit f = decide (¬ (0 : Nat) = 0)
  rw [Nat.zero_testBit]; rfl, rfl, rfl, rfl, rfl, fun c => ⟨rfl, show (0 : Nat) = 0 / 4 % 8 by decide, show (0 : Nat) = 0 / 32 % 8 by decide, rfl⟩⟩
end
section
/-! the two constructors: walks printed by w26.py -/
set_option maxRecDepth 100000
theorem arr_same {D : va_G} {cl : List vw_C} {tys : List (ClassId × FieldType)} {s : State} {cA cB : ClassId} {ty : FieldType} {i j : Nat} (hty : ty = .byte ∨ ty = .boolean ∨ ty = .long ∨ ty = .int) (hK : va_K D cl tys s) (h1 : tys[i]? = some (cA, ty)) (h2 : tys[j]? = some (cB, ty)) : cA = cB := by
  have a1 := (hK.2 i _ h1).2
  have a2 := (hK.2 j _ h2).2
  rcases hty with rfl | rfl | rfl | rfl <;> exact Option.some.inj (Eq.trans (Eq.symm a1) a2)
section NEWA
variable {p : Program} {l : Launch} {e : Env} {R : Room} {s : State} {m : MethodId} {args : Array Value} {below : List Frame} {meth : Method} {c : Code} {H : Heap} {locs : List Loc} {cells slots : Nat} {Q : State → Prop}
variable {cc : ByteArray} {pc : Nat} {ls : Array Slot} {rest : List Value} {D : va_G} {cl : List vw_C} {A : Nat → Prop} {tys : List (ClassId × FieldType)} {ws : va_W} {H0 : Heap}
theorem i_newa (hexec : p.tables.exec = Jvm.exec) (hb : c.code = cc) {atype : ArrayType} {ty : FieldType} (hty : newarray.typeOf atype = ty) (h4 : ty = .byte ∨ ty = .boolean ∨ ty = .long ∨ ty = .int) (harr : (Cond.arrayClass ty).before args s = true) (hK : va_K D cl tys s) (t0 : Nat) {cB : ClassId} (ht : tys[t0]? = some (cB, ty)) (hP : va_P D cl ws H) (hD : va_D A ws) (hS : va_S A H0 H locs) (hA : ∀ q, H0.size ≤ q → A q)
    {n : Int32} {N' : Nat} (a0 : vp_A) (ha : ∀ cA : ClassId, vp_cell cA a0 = arrV cA N' (fun _ => defaultValue ty)) (hn : ¬ n < 0) (hN : n.toNatClampNeg = N') (hbytes : N' * componentBytes ty ≤ 536870912) (hcells : cells + 1 ≤ R.cells) (hslots : slots + N' ≤ R.slots) (hdg : decode cc pc = .ok (.newarray atype, 2))
    (kk : ∀ (q : Nat) (H1 : Heap), va_P D cl (ws ++ [(q, .inl (cB, a0))]) H1 → va_D A (ws ++ [(q, .inl (cB, a0))]) → va_S A H0 H1 locs →
      W p l e R s m args below meth c H1 locs (cells + 1) (slots + N') Q (F0 m (pc + 2) ls (.ref q :: rest))) : W p l e R s m args below meth c H locs cells slots Q (F0 m pc ls (.int n :: rest)) := by
  refine va_newa hexec hb (by rw [hty]; exact harr) hty hK hP hD hS hA ha hn hN hbytes hcells hslots hdg (fun q cA H1 hK1 hP1 hD1 hS1 => ?_)
  have hlt : t0 < tys.length := (List.getElem?_eq_some_iff.mp ht).1
  have e : cA = cB := arr_same (i := tys.length) (j := t0) h4 hK1 (by rw [List.getElem?_append_right (Nat.le_refl _), Nat.sub_self]; rfl) (by rw [List.getElem?_append_left hlt]; exact ht)
  subst e
  exact kk q H1 hP1 hD1 hS1
end NEWA
def rmE : Room := { frames := 1, cells := 12, slots := 132, locals := 12 }
def rmM : Room := { frames := 1, cells := 7, slots := 43, locals := 12 }
abbrev eF0 : List Value := [.int 0, .null, .null, .null, .null, .null, .null, .null, .null, .null, .null, .null, .null]
abbrev mF0 : List Value := [.null, .null, .null, .null, .null, .null, .null]
def zst (r : Nat) : ES := fun i j => if i = 9 ∧ j % 11 = 0 ∧ j / 11 < r then 1 else 0
theorem zst_0 : zst 0 = fun _ _ => 0 := by
  funext i j
  unfold zst
  rw [if_neg (by omega)]
theorem zst_s (r : Nat) : up2 (zst r) 9 (r * 11) 1 = zst (r + 1) := by
  funext i j
  unfold up2 updN zst
  by_cases h : i = 9
  · rw [if_pos h]
    by_cases e : j = r * 11
    · rw [if_pos e, if_pos ⟨h, by omega, by omega⟩]
    · rw [if_neg e]
      by_cases h2 : j % 11 = 0 ∧ j / 11 < r
      · rw [if_pos ⟨rfl, h2⟩, if_pos ⟨h, h2.1, by omega⟩]
      · rw [if_neg (fun h3 => h2 h3.2), if_neg (fun h3 => h2 ⟨h3.2.1, by omega⟩)]
  · rw [if_neg h, if_neg (fun h3 => h h3.1), if_neg (fun h3 => h h3.1)]
theorem zst_3 : zst 3 = eZ := by
  funext i j
  unfold zst eZ
  by_cases h : i = 9
  · rw [if_pos h]
    by_cases h2 : j = 0 ∨ j = 11 ∨ j = 22
    · rw [if_pos h2, if_pos ⟨h, by omega, by omega⟩]
    · rw [if_neg h2, if_neg (fun h3 => by omega)]
  · rw [if_neg h, if_neg (fun h3 => h h3.1)]
theorem e_init_tail {X : zX} {q : Nat → Nat} (hc : zC X cX0_init 2 RX0 rmE) (fin : zG X (eW (zx_K X) q) 2 eZ [(0, .ref (q 0)), (1, .int (nI 3))] 120 []) : zG X (eW (zx_K X) q) 2 (zst 0) [(0, .ref (q 0))] 97 [] := by
  refine z_iconst hc ((nI 0)) dX0_init_97 (by decide) ?_
  refine z_istore_n (lv' := [(0, .ref (q 0)), (1, .int (nI 0))]) hc dX0_init_98 rfl (by decide) rfl ?_
  have L : ∀ (r : Nat) (t : Unit), r ≤ 3 → True → zG X (eW (zx_K X) q) 2 (zst r) [(0, .ref (q 0)), (1, .int (nI r))] 99 [] := by
    refine z_loop 3 (fun _ _ => True) _ (fun r t hr hI ih => ?_)
    refine z_iload_n hc dX0_init_99 1 rfl rfl ?_
    refine z_iconst hc ((nI 3)) dX0_init_100 (by decide) ?_
    refine z_icmp_ge hc 120 dX0_init_101 (by decide) (toInt_nI (by omega)) (toInt_nI (by omega)) (fun h1 => ?_) (fun h1 => ?_)
    · have e : r = 3 := by omega
      subst e
      rw [zst_3]
      exact fin
    · refine z_aload_n hc dX0_init_104 0 rfl rfl ?_
      refine z_eget hc 9 (by decide) q40 rfl dX0_init_105 ?_
      refine z_iload_n hc dX0_init_108 1 rfl rfl ?_
      refine z_bipush hc ((nI 11)) dX0_init_109 (by decide) ?_
      refine z_imul (a := r) (b := 11) hc dX0_init_111 ?_
      refine z_lconst hc 1 dX0_init_112 rfl ?_
      refine z_last (q0 := 9) (N := 33) (f := (zst r) 9) hc rfl (show r * 11 < 33 by omega) (by decide) (eW_set9 _ _ _ _ _) dX0_init_113 ?_
      rw [zst_s]
      refine z_iinc (a := r) (lv' := [(0, .ref (q 0)), (1, .int (nI (r + 1)))]) hc dX0_init_114 1 rfl (by decide) rfl ?_
      refine z_goto hc 99 dX0_init_117 (by decide) ?_
      exact ih (by omega) () trivial
  exact L 0 () (by decide) trivial
set_option maxHeartbeats 4000000 in
/-- ReteEngine() -/
theorem e_init (l : Launch) (K : zK) (h0 sz : Nat) : Met l yX0_init (ws_ yX0_init cX0_init 2 none) rmE (va_Pc [.ref h0] (fun U => U.heap.size = sz ∧ va_P K.1 vwCl [(h0, .inr (0, eF0))] U.heap ∧ va_K K.1 vwCl (zt K) U ∧ va_D (fun _ => True) [(h0, .inr (0, eF0))])) (va_Qv (fun q : Nat → Nat => q 0 = h0) (fun q t => va_P K.1 vwCl (eW K q eZ) t.heap ∧ va_K K.1 vwCl (zt K) t ∧ va_D (va_A [(h0, .inr (0, eF0))] sz) (eW K q eZ)) (va_A [(h0, .inr (0, eF0))] sz)) 12 132 (va_A [(h0, .inr (0, eF0))] sz) := by
  refine Met.ofW (cc := cX0_init) (maxL := 2) (ret := none) (by decide) rfl ?_
  intro p e s m args below meth c s₁ B hml hv
  obtain ⟨rfl, hsz, hP, hK, hD0⟩ := hv
  have hx := B.exec
  have hb := B.bytes
  have hr := B.returns
  have hts := atoms_spec (ws := ws_ yX0_init cX0_init 2 none) B.pre
  have hts : ∀ w ∈ lw_all, w.before _ s = true := fun w h => hts w (List.mem_cons_of_mem _ h)
  have hown : s.vm.findClass RX0 = some m.cls := findClass_of_methodNamed B.named
  have hlocks := B.notSynchronized
  have hin : meth.name = "<init>" := (name_of_methodNamed B.named B.method).1
  subst hsz
  have hD := hD0.self (sz := s.heap.size)
  generalize hAe : va_A [(h0, .inr (0, eF0))] s.heap.size = A at hD ⊢
  have hA : ∀ q : Nat, s.heap.size ≤ q → A q := fun q h => by rw [← hAe]; exact Or.inr h
  have hS : va_S A s.heap s.heap [] := va_S.rf
  have hl := lv_entry ([.ref h0]) (n := 2) (Nat.le_of_ble_eq_true rfl)
  rw [lg_entry_eq]
  generalize (lg_sl ([.ref h0]) ++ List.replicate (2 - (lg_sl ([.ref h0])).length) Slot.unset).toArray = ls at hl ⊢
  have hl : lv_has ls 2 [(0, .ref h0)] := hl
  refine lv_aload_n hx hb dX0_init_0 rfl (lv_at hl 0 rfl) ?_
  refine W.objInit hx hb hown (hts _ q28) (hts _ q29) (hts _ q30) rfl (by rw [hml]; exact hl.1) rfl dX0_init_1 (Nat.le_of_ble_eq_true rfl) (Nat.le_of_ble_eq_true rfl) ?_
  refine W.eq (g2 := F0 m 4 ls []) rfl ?_
  refine lv_aload_n hx hb dX0_init_4 rfl (lv_at hl 0 rfl) ?_
  refine lv_bipush (v := 7) hx hb dX0_init_5 (by decide) ?_
  refine i_newa (ty := .byte) (N' := 7) hx hb rfl (Or.inl rfl) (hts _ q71) hK 0 rfl hP hD hS hA (7, .inl (fun _ => nI 0)) (fun _ => rfl) (by decide) (by decide) (by decide) (Nat.le_of_ble_eq_true rfl) (Nat.le_of_ble_eq_true rfl) dX0_init_7 (fun q1 H hP hD hS => ?_)
  have hP : va_P K.1 vwCl [(h0, .inr (0, [.int 0, .null, .null, .null, .null, .null, .null, .null, .null, .null, .null, .null, .null])), (q1, .inl (K.2.1, 7, .inl (fun _ => nI 0)))] H := hP
  have hD : va_D A [(h0, .inr (0, [.int 0, .null, .null, .null, .null, .null, .null, .null, .null, .null, .null, .null, .null])), (q1, .inl (K.2.1, 7, .inl (fun _ => nI 0)))] := hD
  refine va_putF (ci := 0) (C := RX0) (T := TX0) (N := 13) hx hb hts in_X0 tyX0 tyX0_ok nmX0 hown hK hP hD hS 0 rfl rfl 1 (by decide) (hts _ q32) (fun _ h => h) rfl hin rfl (tyX0_ok 1 (by decide)) rfl rfl (Nat.le_of_ble_eq_true rfl) dX0_init_9 (fun H locs1 hP hD hS => ?_)
  have hP : va_P K.1 vwCl [(h0, .inr (0, [.int 0, .ref q1, .null, .null, .null, .null, .null, .null, .null, .null, .null, .null, .null])), (q1, .inl (K.2.1, 7, .inl (fun _ => nI 0)))] H := hP
  have hD : va_D A [(h0, .inr (0, [.int 0, .ref q1, .null, .null, .null, .null, .null, .null, .null, .null, .null, .null, .null])), (q1, .inl (K.2.1, 7, .inl (fun _ => nI 0)))] := hD
  refine lv_aload_n hx hb dX0_init_12 rfl (lv_at hl 0 rfl) ?_
  refine lv_bipush (v := 7) hx hb dX0_init_13 (by decide) ?_
  refine i_newa (ty := .byte) (N' := 7) hx hb rfl (Or.inl rfl) (hts _ q71) hK 0 rfl hP hD hS hA (7, .inl (fun _ => nI 0)) (fun _ => rfl) (by decide) (by decide) (by decide) (Nat.le_of_ble_eq_true rfl) (Nat.le_of_ble_eq_true rfl) dX0_init_15 (fun q2 H hP hD hS => ?_)
  have hP : va_P K.1 vwCl [(h0, .inr (0, [.int 0, .ref q1, .null, .null, .null, .null, .null, .null, .null, .null, .null, .null, .null])), (q1, .inl (K.2.1, 7, .inl (fun _ => nI 0))), (q2, .inl (K.2.1, 7, .inl (fun _ => nI 0)))] H := hP
  have hD : va_D A [(h0, .inr (0, [.int 0, .ref q1, .null, .null, .null, .null, .null, .null, .null, .null, .null, .null, .null])), (q1, .inl (K.2.1, 7, .inl (fun _ => nI 0))), (q2, .inl (K.2.1, 7, .inl (fun _ => nI 0)))] := hD
  refine va_putF (ci := 0) (C := RX0) (T := TX0) (N := 13) hx hb hts in_X0 tyX0 tyX0_ok nmX0 hown hK hP hD hS 0 rfl rfl 2 (by decide) (hts _ q33) (fun _ h => h) rfl hin rfl (tyX0_ok 2 (by decide)) rfl rfl (Nat.le_of_ble_eq_true rfl) dX0_init_17 (fun H locs2 hP hD hS => ?_)
  have hP : va_P K.1 vwCl [(h0, .inr (0, [.int 0, .ref q1, .ref q2, .null, .null, .null, .null, .null, .null, .null, .null, .null, .null])), (q1, .inl (K.2.1, 7, .inl (fun _ => nI 0))), (q2, .inl (K.2.1, 7, .inl (fun _ => nI 0)))] H := hP
  have hD : va_D A [(h0, .inr (0, [.int 0, .ref q1, .ref q2, .null, .null, .null, .null, .null, .null, .null, .null, .null, .null])), (q1, .inl (K.2.1, 7, .inl (fun _ => nI 0))), (q2, .inl (K.2.1, 7, .inl (fun _ => nI 0)))] := hD
  refine lv_aload_n hx hb dX0_init_20 rfl (lv_at hl 0 rfl) ?_
  refine lv_bipush (v := 7) hx hb dX0_init_21 (by decide) ?_
  refine i_newa (ty := .byte) (N' := 7) hx hb rfl (Or.inl rfl) (hts _ q71) hK 0 rfl hP hD hS hA (7, .inl (fun _ => nI 0)) (fun _ => rfl) (by decide) (by decide) (by decide) (Nat.le_of_ble_eq_true rfl) (Nat.le_of_ble_eq_true rfl) dX0_init_23 (fun q3 H hP hD hS => ?_)
  have hP : va_P K.1 vwCl [(h0, .inr (0, [.int 0, .ref q1, .ref q2, .null, .null, .null, .null, .null, .null, .null, .null, .null, .null])), (q1, .inl (K.2.1, 7, .inl (fun _ => nI 0))), (q2, .inl (K.2.1, 7, .inl (fun _ => nI 0))), (q3, .inl (K.2.1, 7, .inl (fun _ => nI 0)))] H := hP
  have hD : va_D A [(h0, .inr (0, [.int 0, .ref q1, .ref q2, .null, .null, .null, .null, .null, .null, .null, .null, .null, .null])), (q1, .inl (K.2.1, 7, .inl (fun _ => nI 0))), (q2, .inl (K.2.1, 7, .inl (fun _ => nI 0))), (q3, .inl (K.2.1, 7, .inl (fun _ => nI 0)))] := hD
  refine va_putF (ci := 0) (C := RX0) (T := TX0) (N := 13) hx hb hts in_X0 tyX0 tyX0_ok nmX0 hown hK hP hD hS 0 rfl rfl 3 (by decide) (hts _ q34) (fun _ h => h) rfl hin rfl (tyX0_ok 3 (by decide)) rfl rfl (Nat.le_of_ble_eq_true rfl) dX0_init_25 (fun H locs3 hP hD hS => ?_)
  have hP : va_P K.1 vwCl [(h0, .inr (0, [.int 0, .ref q1, .ref q2, .ref q3, .null, .null, .null, .null, .null, .null, .null, .null, .null])), (q1, .inl (K.2.1, 7, .inl (fun _ => nI 0))), (q2, .inl (K.2.1, 7, .inl (fun _ => nI 0))), (q3, .inl (K.2.1, 7, .inl (fun _ => nI 0)))] H := hP
  have hD : va_D A [(h0, .inr (0, [.int 0, .ref q1, .ref q2, .ref q3, .null, .null, .null, .null, .null, .null, .null, .null, .null])), (q1, .inl (K.2.1, 7, .inl (fun _ => nI 0))), (q2, .inl (K.2.1, 7, .inl (fun _ => nI 0))), (q3, .inl (K.2.1, 7, .inl (fun _ => nI 0)))] := hD
  refine lv_aload_n hx hb dX0_init_28 rfl (lv_at hl 0 rfl) ?_
  refine lv_iconst (v := 3) hx hb dX0_init_29 (by decide) ?_
  refine i_newa (ty := .byte) (N' := 3) hx hb rfl (Or.inl rfl) (hts _ q71) hK 0 rfl hP hD hS hA (3, .inl (fun _ => nI 0)) (fun _ => rfl) (by decide) (by decide) (by decide) (Nat.le_of_ble_eq_true rfl) (Nat.le_of_ble_eq_true rfl) dX0_init_30 (fun q4 H hP hD hS => ?_)
  have hP : va_P K.1 vwCl [(h0, .inr (0, [.int 0, .ref q1, .ref q2, .ref q3, .null, .null, .null, .null, .null, .null, .null, .null, .null])), (q1, .inl (K.2.1, 7, .inl (fun _ => nI 0))), (q2, .inl (K.2.1, 7, .inl (fun _ => nI 0))), (q3, .inl (K.2.1, 7, .inl (fun _ => nI 0))), (q4, .inl (K.2.1, 3, .inl (fun _ => nI 0)))] H := hP
  have hD : va_D A [(h0, .inr (0, [.int 0, .ref q1, .ref q2, .ref q3, .null, .null, .null, .null, .null, .null, .null, .null, .null])), (q1, .inl (K.2.1, 7, .inl (fun _ => nI 0))), (q2, .inl (K.2.1, 7, .inl (fun _ => nI 0))), (q3, .inl (K.2.1, 7, .inl (fun _ => nI 0))), (q4, .inl (K.2.1, 3, .inl (fun _ => nI 0)))] := hD
  refine va_putF (ci := 0) (C := RX0) (T := TX0) (N := 13) hx hb hts in_X0 tyX0 tyX0_ok nmX0 hown hK hP hD hS 0 rfl rfl 4 (by decide) (hts _ q35) (fun _ h => h) rfl hin rfl (tyX0_ok 4 (by decide)) rfl rfl (Nat.le_of_ble_eq_true rfl) dX0_init_32 (fun H locs4 hP hD hS => ?_)
  have hP : va_P K.1 vwCl [(h0, .inr (0, [.int 0, .ref q1, .ref q2, .ref q3, .ref q4, .null, .null, .null, .null, .null, .null, .null, .null])), (q1, .inl (K.2.1, 7, .inl (fun _ => nI 0))), (q2, .inl (K.2.1, 7, .inl (fun _ => nI 0))), (q3, .inl (K.2.1, 7, .inl (fun _ => nI 0))), (q4, .inl (K.2.1, 3, .inl (fun _ => nI 0)))] H := hP
  have hD : va_D A [(h0, .inr (0, [.int 0, .ref q1, .ref q2, .ref q3, .ref q4, .null, .null, .null, .null, .null, .null, .null, .null])), (q1, .inl (K.2.1, 7, .inl (fun _ => nI 0))), (q2, .inl (K.2.1, 7, .inl (fun _ => nI 0))), (q3, .inl (K.2.1, 7, .inl (fun _ => nI 0))), (q4, .inl (K.2.1, 3, .inl (fun _ => nI 0)))] := hD
  refine lv_aload_n hx hb dX0_init_35 rfl (lv_at hl 0 rfl) ?_
  refine lv_bipush (v := 9) hx hb dX0_init_36 (by decide) ?_
  refine i_newa (ty := .byte) (N' := 9) hx hb rfl (Or.inl rfl) (hts _ q71) hK 0 rfl hP hD hS hA (9, .inl (fun _ => nI 0)) (fun _ => rfl) (by decide) (by decide) (by decide) (Nat.le_of_ble_eq_true rfl) (Nat.le_of_ble_eq_true rfl) dX0_init_38 (fun q5 H hP hD hS => ?_)
  have hP : va_P K.1 vwCl [(h0, .inr (0, [.int 0, .ref q1, .ref q2, .ref q3, .ref q4, .null, .null, .null, .null, .null, .null, .null, .null])), (q1, .inl (K.2.1, 7, .inl (fun _ => nI 0))), (q2, .inl (K.2.1, 7, .inl (fun _ => nI 0))), (q3, .inl (K.2.1, 7, .inl (fun _ => nI 0))), (q4, .inl (K.2.1, 3, .inl (fun _ => nI 0))), (q5, .inl (K.2.1, 9, .inl (fun _ => nI 0)))] H := hP
  have hD : va_D A [(h0, .inr (0, [.int 0, .ref q1, .ref q2, .ref q3, .ref q4, .null, .null, .null, .null, .null, .null, .null, .null])), (q1, .inl (K.2.1, 7, .inl (fun _ => nI 0))), (q2, .inl (K.2.1, 7, .inl (fun _ => nI 0))), (q3, .inl (K.2.1, 7, .inl (fun _ => nI 0))), (q4, .inl (K.2.1, 3, .inl (fun _ => nI 0))), (q5, .inl (K.2.1, 9, .inl (fun _ => nI 0)))] := hD
  refine va_putF (ci := 0) (C := RX0) (T := TX0) (N := 13) hx hb hts in_X0 tyX0 tyX0_ok nmX0 hown hK hP hD hS 0 rfl rfl 5 (by decide) (hts _ q36) (fun _ h => h) rfl hin rfl (tyX0_ok 5 (by decide)) rfl rfl (Nat.le_of_ble_eq_true rfl) dX0_init_40 (fun H locs5 hP hD hS => ?_)
  have hP : va_P K.1 vwCl [(h0, .inr (0, [.int 0, .ref q1, .ref q2, .ref q3, .ref q4, .ref q5, .null, .null, .null, .null, .null, .null, .null])), (q1, .inl (K.2.1, 7, .inl (fun _ => nI 0))), (q2, .inl (K.2.1, 7, .inl (fun _ => nI 0))), (q3, .inl (K.2.1, 7, .inl (fun _ => nI 0))), (q4, .inl (K.2.1, 3, .inl (fun _ => nI 0))), (q5, .inl (K.2.1, 9, .inl (fun _ => nI 0)))] H := hP
  have hD : va_D A [(h0, .inr (0, [.int 0, .ref q1, .ref q2, .ref q3, .ref q4, .ref q5, .null, .null, .null, .null, .null, .null, .null])), (q1, .inl (K.2.1, 7, .inl (fun _ => nI 0))), (q2, .inl (K.2.1, 7, .inl (fun _ => nI 0))), (q3, .inl (K.2.1, 7, .inl (fun _ => nI 0))), (q4, .inl (K.2.1, 3, .inl (fun _ => nI 0))), (q5, .inl (K.2.1, 9, .inl (fun _ => nI 0)))] := hD
  refine lv_aload_n hx hb dX0_init_43 rfl (lv_at hl 0 rfl) ?_
  refine lv_bipush (v := 9) hx hb dX0_init_44 (by decide) ?_
  refine i_newa (ty := .byte) (N' := 9) hx hb rfl (Or.inl rfl) (hts _ q71) hK 0 rfl hP hD hS hA (9, .inl (fun _ => nI 0)) (fun _ => rfl) (by decide) (by decide) (by decide) (Nat.le_of_ble_eq_true rfl) (Nat.le_of_ble_eq_true rfl) dX0_init_46 (fun q6 H hP hD hS => ?_)
  have hP : va_P K.1 vwCl [(h0, .inr (0, [.int 0, .ref q1, .ref q2, .ref q3, .ref q4, .ref q5, .null, .null, .null, .null, .null, .null, .null])), (q1, .inl (K.2.1, 7, .inl (fun _ => nI 0))), (q2, .inl (K.2.1, 7, .inl (fun _ => nI 0))), (q3, .inl (K.2.1, 7, .inl (fun _ => nI 0))), (q4, .inl (K.2.1, 3, .inl (fun _ => nI 0))), (q5, .inl (K.2.1, 9, .inl (fun _ => nI 0))), (q6, .inl (K.2.1, 9, .inl (fun _ => nI 0)))] H := hP
  have hD : va_D A [(h0, .inr (0, [.int 0, .ref q1, .ref q2, .ref q3, .ref q4, .ref q5, .null, .null, .null, .null, .null, .null, .null])), (q1, .inl (K.2.1, 7, .inl (fun _ => nI 0))), (q2, .inl (K.2.1, 7, .inl (fun _ => nI 0))), (q3, .inl (K.2.1, 7, .inl (fun _ => nI 0))), (q4, .inl (K.2.1, 3, .inl (fun _ => nI 0))), (q5, .inl (K.2.1, 9, .inl (fun _ => nI 0))), (q6, .inl (K.2.1, 9, .inl (fun _ => nI 0)))] := hD
  refine va_putF (ci := 0) (C := RX0) (T := TX0) (N := 13) hx hb hts in_X0 tyX0 tyX0_ok nmX0 hown hK hP hD hS 0 rfl rfl 6 (by decide) (hts _ q37) (fun _ h => h) rfl hin rfl (tyX0_ok 6 (by decide)) rfl rfl (Nat.le_of_ble_eq_true rfl) dX0_init_48 (fun H locs6 hP hD hS => ?_)
  have hP : va_P K.1 vwCl [(h0, .inr (0, [.int 0, .ref q1, .ref q2, .ref q3, .ref q4, .ref q5, .ref q6, .null, .null, .null, .null, .null, .null])), (q1, .inl (K.2.1, 7, .inl (fun _ => nI 0))), (q2, .inl (K.2.1, 7, .inl (fun _ => nI 0))), (q3, .inl (K.2.1, 7, .inl (fun _ => nI 0))), (q4, .inl (K.2.1, 3, .inl (fun _ => nI 0))), (q5, .inl (K.2.1, 9, .inl (fun _ => nI 0))), (q6, .inl (K.2.1, 9, .inl (fun _ => nI 0)))] H := hP
  have hD : va_D A [(h0, .inr (0, [.int 0, .ref q1, .ref q2, .ref q3, .ref q4, .ref q5, .ref q6, .null, .null, .null, .null, .null, .null])), (q1, .inl (K.2.1, 7, .inl (fun _ => nI 0))), (q2, .inl (K.2.1, 7, .inl (fun _ => nI 0))), (q3, .inl (K.2.1, 7, .inl (fun _ => nI 0))), (q4, .inl (K.2.1, 3, .inl (fun _ => nI 0))), (q5, .inl (K.2.1, 9, .inl (fun _ => nI 0))), (q6, .inl (K.2.1, 9, .inl (fun _ => nI 0)))] := hD
  refine lv_aload_n hx hb dX0_init_51 rfl (lv_at hl 0 rfl) ?_
  refine lv_bipush (v := 9) hx hb dX0_init_52 (by decide) ?_
  refine i_newa (ty := .byte) (N' := 9) hx hb rfl (Or.inl rfl) (hts _ q71) hK 0 rfl hP hD hS hA (9, .inl (fun _ => nI 0)) (fun _ => rfl) (by decide) (by decide) (by decide) (Nat.le_of_ble_eq_true rfl) (Nat.le_of_ble_eq_true rfl) dX0_init_54 (fun q7 H hP hD hS => ?_)
  have hP : va_P K.1 vwCl [(h0, .inr (0, [.int 0, .ref q1, .ref q2, .ref q3, .ref q4, .ref q5, .ref q6, .null, .null, .null, .null, .null, .null])), (q1, .inl (K.2.1, 7, .inl (fun _ => nI 0))), (q2, .inl (K.2.1, 7, .inl (fun _ => nI 0))), (q3, .inl (K.2.1, 7, .inl (fun _ => nI 0))), (q4, .inl (K.2.1, 3, .inl (fun _ => nI 0))), (q5, .inl (K.2.1, 9, .inl (fun _ => nI 0))), (q6, .inl (K.2.1, 9, .inl (fun _ => nI 0))), (q7, .inl (K.2.1, 9, .inl (fun _ => nI 0)))] H := hP
  have hD : va_D A [(h0, .inr (0, [.int 0, .ref q1, .ref q2, .ref q3, .ref q4, .ref q5, .ref q6, .null, .null, .null, .null, .null, .null])), (q1, .inl (K.2.1, 7, .inl (fun _ => nI 0))), (q2, .inl (K.2.1, 7, .inl (fun _ => nI 0))), (q3, .inl (K.2.1, 7, .inl (fun _ => nI 0))), (q4, .inl (K.2.1, 3, .inl (fun _ => nI 0))), (q5, .inl (K.2.1, 9, .inl (fun _ => nI 0))), (q6, .inl (K.2.1, 9, .inl (fun _ => nI 0))), (q7, .inl (K.2.1, 9, .inl (fun _ => nI 0)))] := hD
  refine va_putF (ci := 0) (C := RX0) (T := TX0) (N := 13) hx hb hts in_X0 tyX0 tyX0_ok nmX0 hown hK hP hD hS 0 rfl rfl 7 (by decide) (hts _ q38) (fun _ h => h) rfl hin rfl (tyX0_ok 7 (by decide)) rfl rfl (Nat.le_of_ble_eq_true rfl) dX0_init_56 (fun H locs7 hP hD hS => ?_)
  have hP : va_P K.1 vwCl [(h0, .inr (0, [.int 0, .ref q1, .ref q2, .ref q3, .ref q4, .ref q5, .ref q6, .ref q7, .null, .null, .null, .null, .null])), (q1, .inl (K.2.1, 7, .inl (fun _ => nI 0))), (q2, .inl (K.2.1, 7, .inl (fun _ => nI 0))), (q3, .inl (K.2.1, 7, .inl (fun _ => nI 0))), (q4, .inl (K.2.1, 3, .inl (fun _ => nI 0))), (q5, .inl (K.2.1, 9, .inl (fun _ => nI 0))), (q6, .inl (K.2.1, 9, .inl (fun _ => nI 0))), (q7, .inl (K.2.1, 9, .inl (fun _ => nI 0)))] H := hP
  have hD : va_D A [(h0, .inr (0, [.int 0, .ref q1, .ref q2, .ref q3, .ref q4, .ref q5, .ref q6, .ref q7, .null, .null, .null, .null, .null])), (q1, .inl (K.2.1, 7, .inl (fun _ => nI 0))), (q2, .inl (K.2.1, 7, .inl (fun _ => nI 0))), (q3, .inl (K.2.1, 7, .inl (fun _ => nI 0))), (q4, .inl (K.2.1, 3, .inl (fun _ => nI 0))), (q5, .inl (K.2.1, 9, .inl (fun _ => nI 0))), (q6, .inl (K.2.1, 9, .inl (fun _ => nI 0))), (q7, .inl (K.2.1, 9, .inl (fun _ => nI 0)))] := hD
  refine lv_aload_n hx hb dX0_init_59 rfl (lv_at hl 0 rfl) ?_
  refine lv_bipush (v := 9) hx hb dX0_init_60 (by decide) ?_
  refine i_newa (ty := .boolean) (N' := 9) hx hb rfl (Or.inr (Or.inl rfl)) (hts _ q72) hK 1 rfl hP hD hS hA (9, .inl (fun _ => nI 0)) (fun _ => rfl) (by decide) (by decide) (by decide) (Nat.le_of_ble_eq_true rfl) (Nat.le_of_ble_eq_true rfl) dX0_init_62 (fun q8 H hP hD hS => ?_)
  have hP : va_P K.1 vwCl [(h0, .inr (0, [.int 0, .ref q1, .ref q2, .ref q3, .ref q4, .ref q5, .ref q6, .ref q7, .null, .null, .null, .null, .null])), (q1, .inl (K.2.1, 7, .inl (fun _ => nI 0))), (q2, .inl (K.2.1, 7, .inl (fun _ => nI 0))), (q3, .inl (K.2.1, 7, .inl (fun _ => nI 0))), (q4, .inl (K.2.1, 3, .inl (fun _ => nI 0))), (q5, .inl (K.2.1, 9, .inl (fun _ => nI 0))), (q6, .inl (K.2.1, 9, .inl (fun _ => nI 0))), (q7, .inl (K.2.1, 9, .inl (fun _ => nI 0))), (q8, .inl (K.2.2.1, 9, .inl (fun _ => nI 0)))] H := hP
  have hD : va_D A [(h0, .inr (0, [.int 0, .ref q1, .ref q2, .ref q3, .ref q4, .ref q5, .ref q6, .ref q7, .null, .null, .null, .null, .null])), (q1, .inl (K.2.1, 7, .inl (fun _ => nI 0))), (q2, .inl (K.2.1, 7, .inl (fun _ => nI 0))), (q3, .inl (K.2.1, 7, .inl (fun _ => nI 0))), (q4, .inl (K.2.1, 3, .inl (fun _ => nI 0))), (q5, .inl (K.2.1, 9, .inl (fun _ => nI 0))), (q6, .inl (K.2.1, 9, .inl (fun _ => nI 0))), (q7, .inl (K.2.1, 9, .inl (fun _ => nI 0))), (q8, .inl (K.2.2.1, 9, .inl (fun _ => nI 0)))] := hD
  refine va_putF (ci := 0) (C := RX0) (T := TX0) (N := 13) hx hb hts in_X0 tyX0 tyX0_ok nmX0 hown hK hP hD hS 0 rfl rfl 8 (by decide) (hts _ q39) (fun _ h => h) rfl hin rfl (tyX0_ok 8 (by decide)) rfl rfl (Nat.le_of_ble_eq_true rfl) dX0_init_64 (fun H locs8 hP hD hS => ?_)
  have hP : va_P K.1 vwCl [(h0, .inr (0, [.int 0, .ref q1, .ref q2, .ref q3, .ref q4, .ref q5, .ref q6, .ref q7, .ref q8, .null, .null, .null, .null])), (q1, .inl (K.2.1, 7, .inl (fun _ => nI 0))), (q2, .inl (K.2.1, 7, .inl (fun _ => nI 0))), (q3, .inl (K.2.1, 7, .inl (fun _ => nI 0))), (q4, .inl (K.2.1, 3, .inl (fun _ => nI 0))), (q5, .inl (K.2.1, 9, .inl (fun _ => nI 0))), (q6, .inl (K.2.1, 9, .inl (fun _ => nI 0))), (q7, .inl (K.2.1, 9, .inl (fun _ => nI 0))), (q8, .inl (K.2.2.1, 9, .inl (fun _ => nI 0)))] H := hP
  have hD : va_D A [(h0, .inr (0, [.int 0, .ref q1, .ref q2, .ref q3, .ref q4, .ref q5, .ref q6, .ref q7, .ref q8, .null, .null, .null, .null])), (q1, .inl (K.2.1, 7, .inl (fun _ => nI 0))), (q2, .inl (K.2.1, 7, .inl (fun _ => nI 0))), (q3, .inl (K.2.1, 7, .inl (fun _ => nI 0))), (q4, .inl (K.2.1, 3, .inl (fun _ => nI 0))), (q5, .inl (K.2.1, 9, .inl (fun _ => nI 0))), (q6, .inl (K.2.1, 9, .inl (fun _ => nI 0))), (q7, .inl (K.2.1, 9, .inl (fun _ => nI 0))), (q8, .inl (K.2.2.1, 9, .inl (fun _ => nI 0)))] := hD
  refine lv_aload_n hx hb dX0_init_67 rfl (lv_at hl 0 rfl) ?_
  refine lv_bipush (v := 33) hx hb dX0_init_68 (by decide) ?_
  refine i_newa (ty := .long) (N' := 33) hx hb rfl (Or.inr (Or.inr (Or.inl rfl))) (hts _ q73) hK 2 rfl hP hD hS hA (33, .inr (.inl (fun _ => lN 0))) (fun _ => rfl) (by decide) (by decide) (by decide) (Nat.le_of_ble_eq_true rfl) (Nat.le_of_ble_eq_true rfl) dX0_init_70 (fun q9 H hP hD hS => ?_)
  have hP : va_P K.1 vwCl [(h0, .inr (0, [.int 0, .ref q1, .ref q2, .ref q3, .ref q4, .ref q5, .ref q6, .ref q7, .ref q8, .null, .null, .null, .null])), (q1, .inl (K.2.1, 7, .inl (fun _ => nI 0))), (q2, .inl (K.2.1, 7, .inl (fun _ => nI 0))), (q3, .inl (K.2.1, 7, .inl (fun _ => nI 0))), (q4, .inl (K.2.1, 3, .inl (fun _ => nI 0))), (q5, .inl (K.2.1, 9, .inl (fun _ => nI 0))), (q6, .inl (K.2.1, 9, .inl (fun _ => nI 0))), (q7, .inl (K.2.1, 9, .inl (fun _ => nI 0))), (q8, .inl (K.2.2.1, 9, .inl (fun _ => nI 0))), (q9, .inl (K.2.2.2.1, 33, .inr (.inl (fun _ => lN 0))))] H := hP
  have hD : va_D A [(h0, .inr (0, [.int 0, .ref q1, .ref q2, .ref q3, .ref q4, .ref q5, .ref q6, .ref q7, .ref q8, .null, .null, .null, .null])), (q1, .inl (K.2.1, 7, .inl (fun _ => nI 0))), (q2, .inl (K.2.1, 7, .inl (fun _ => nI 0))), (q3, .inl (K.2.1, 7, .inl (fun _ => nI 0))), (q4, .inl (K.2.1, 3, .inl (fun _ => nI 0))), (q5, .inl (K.2.1, 9, .inl (fun _ => nI 0))), (q6, .inl (K.2.1, 9, .inl (fun _ => nI 0))), (q7, .inl (K.2.1, 9, .inl (fun _ => nI 0))), (q8, .inl (K.2.2.1, 9, .inl (fun _ => nI 0))), (q9, .inl (K.2.2.2.1, 33, .inr (.inl (fun _ => lN 0))))] := hD
  refine va_putF (ci := 0) (C := RX0) (T := TX0) (N := 13) hx hb hts in_X0 tyX0 tyX0_ok nmX0 hown hK hP hD hS 0 rfl rfl 9 (by decide) (hts _ q40) (fun _ h => h) rfl hin rfl (tyX0_ok 9 (by decide)) rfl rfl (Nat.le_of_ble_eq_true rfl) dX0_init_72 (fun H locs9 hP hD hS => ?_)
  have hP : va_P K.1 vwCl [(h0, .inr (0, [.int 0, .ref q1, .ref q2, .ref q3, .ref q4, .ref q5, .ref q6, .ref q7, .ref q8, .ref q9, .null, .null, .null])), (q1, .inl (K.2.1, 7, .inl (fun _ => nI 0))), (q2, .inl (K.2.1, 7, .inl (fun _ => nI 0))), (q3, .inl (K.2.1, 7, .inl (fun _ => nI 0))), (q4, .inl (K.2.1, 3, .inl (fun _ => nI 0))), (q5, .inl (K.2.1, 9, .inl (fun _ => nI 0))), (q6, .inl (K.2.1, 9, .inl (fun _ => nI 0))), (q7, .inl (K.2.1, 9, .inl (fun _ => nI 0))), (q8, .inl (K.2.2.1, 9, .inl (fun _ => nI 0))), (q9, .inl (K.2.2.2.1, 33, .inr (.inl (fun _ => lN 0))))] H := hP
  have hD : va_D A [(h0, .inr (0, [.int 0, .ref q1, .ref q2, .ref q3, .ref q4, .ref q5, .ref q6, .ref q7, .ref q8, .ref q9, .null, .null, .null])), (q1, .inl (K.2.1, 7, .inl (fun _ => nI 0))), (q2, .inl (K.2.1, 7, .inl (fun _ => nI 0))), (q3, .inl (K.2.1, 7, .inl (fun _ => nI 0))), (q4, .inl (K.2.1, 3, .inl (fun _ => nI 0))), (q5, .inl (K.2.1, 9, .inl (fun _ => nI 0))), (q6, .inl (K.2.1, 9, .inl (fun _ => nI 0))), (q7, .inl (K.2.1, 9, .inl (fun _ => nI 0))), (q8, .inl (K.2.2.1, 9, .inl (fun _ => nI 0))), (q9, .inl (K.2.2.2.1, 33, .inr (.inl (fun _ => lN 0))))] := hD
  refine lv_aload_n hx hb dX0_init_75 rfl (lv_at hl 0 rfl) ?_
  refine lv_bipush (v := 33) hx hb dX0_init_76 (by decide) ?_
  refine i_newa (ty := .long) (N' := 33) hx hb rfl (Or.inr (Or.inr (Or.inl rfl))) (hts _ q73) hK 2 rfl hP hD hS hA (33, .inr (.inl (fun _ => lN 0))) (fun _ => rfl) (by decide) (by decide) (by decide) (Nat.le_of_ble_eq_true rfl) (Nat.le_of_ble_eq_true rfl) dX0_init_78 (fun q10 H hP hD hS => ?_)
  have hP : va_P K.1 vwCl [(h0, .inr (0, [.int 0, .ref q1, .ref q2, .ref q3, .ref q4, .ref q5, .ref q6, .ref q7, .ref q8, .ref q9, .null, .null, .null])), (q1, .inl (K.2.1, 7, .inl (fun _ => nI 0))), (q2, .inl (K.2.1, 7, .inl (fun _ => nI 0))), (q3, .inl (K.2.1, 7, .inl (fun _ => nI 0))), (q4, .inl (K.2.1, 3, .inl (fun _ => nI 0))), (q5, .inl (K.2.1, 9, .inl (fun _ => nI 0))), (q6, .inl (K.2.1, 9, .inl (fun _ => nI 0))), (q7, .inl (K.2.1, 9, .inl (fun _ => nI 0))), (q8, .inl (K.2.2.1, 9, .inl (fun _ => nI 0))), (q9, .inl (K.2.2.2.1, 33, .inr (.inl (fun _ => lN 0)))), (q10, .inl (K.2.2.2.1, 33, .inr (.inl (fun _ => lN 0))))] H := hP
  have hD : va_D A [(h0, .inr (0, [.int 0, .ref q1, .ref q2, .ref q3, .ref q4, .ref q5, .ref q6, .ref q7, .ref q8, .ref q9, .null, .null, .null])), (q1, .inl (K.2.1, 7, .inl (fun _ => nI 0))), (q2, .inl (K.2.1, 7, .inl (fun _ => nI 0))), (q3, .inl (K.2.1, 7, .inl (fun _ => nI 0))), (q4, .inl (K.2.1, 3, .inl (fun _ => nI 0))), (q5, .inl (K.2.1, 9, .inl (fun _ => nI 0))), (q6, .inl (K.2.1, 9, .inl (fun _ => nI 0))), (q7, .inl (K.2.1, 9, .inl (fun _ => nI 0))), (q8, .inl (K.2.2.1, 9, .inl (fun _ => nI 0))), (q9, .inl (K.2.2.2.1, 33, .inr (.inl (fun _ => lN 0)))), (q10, .inl (K.2.2.2.1, 33, .inr (.inl (fun _ => lN 0))))] := hD
  refine va_putF (ci := 0) (C := RX0) (T := TX0) (N := 13) hx hb hts in_X0 tyX0 tyX0_ok nmX0 hown hK hP hD hS 0 rfl rfl 10 (by decide) (hts _ q41) (fun _ h => h) rfl hin rfl (tyX0_ok 10 (by decide)) rfl rfl (Nat.le_of_ble_eq_true rfl) dX0_init_80 (fun H locs10 hP hD hS => ?_)
  have hP : va_P K.1 vwCl [(h0, .inr (0, [.int 0, .ref q1, .ref q2, .ref q3, .ref q4, .ref q5, .ref q6, .ref q7, .ref q8, .ref q9, .ref q10, .null, .null])), (q1, .inl (K.2.1, 7, .inl (fun _ => nI 0))), (q2, .inl (K.2.1, 7, .inl (fun _ => nI 0))), (q3, .inl (K.2.1, 7, .inl (fun _ => nI 0))), (q4, .inl (K.2.1, 3, .inl (fun _ => nI 0))), (q5, .inl (K.2.1, 9, .inl (fun _ => nI 0))), (q6, .inl (K.2.1, 9, .inl (fun _ => nI 0))), (q7, .inl (K.2.1, 9, .inl (fun _ => nI 0))), (q8, .inl (K.2.2.1, 9, .inl (fun _ => nI 0))), (q9, .inl (K.2.2.2.1, 33, .inr (.inl (fun _ => lN 0)))), (q10, .inl (K.2.2.2.1, 33, .inr (.inl (fun _ => lN 0))))] H := hP
  have hD : va_D A [(h0, .inr (0, [.int 0, .ref q1, .ref q2, .ref q3, .ref q4, .ref q5, .ref q6, .ref q7, .ref q8, .ref q9, .ref q10, .null, .null])), (q1, .inl (K.2.1, 7, .inl (fun _ => nI 0))), (q2, .inl (K.2.1, 7, .inl (fun _ => nI 0))), (q3, .inl (K.2.1, 7, .inl (fun _ => nI 0))), (q4, .inl (K.2.1, 3, .inl (fun _ => nI 0))), (q5, .inl (K.2.1, 9, .inl (fun _ => nI 0))), (q6, .inl (K.2.1, 9, .inl (fun _ => nI 0))), (q7, .inl (K.2.1, 9, .inl (fun _ => nI 0))), (q8, .inl (K.2.2.1, 9, .inl (fun _ => nI 0))), (q9, .inl (K.2.2.2.1, 33, .inr (.inl (fun _ => lN 0)))), (q10, .inl (K.2.2.2.1, 33, .inr (.inl (fun _ => lN 0))))] := hD
  refine lv_aload_n hx hb dX0_init_83 rfl (lv_at hl 0 rfl) ?_
  refine lv_iconst (v := 3) hx hb dX0_init_84 (by decide) ?_
  refine i_newa (ty := .byte) (N' := 3) hx hb rfl (Or.inl rfl) (hts _ q71) hK 0 rfl hP hD hS hA (3, .inl (fun _ => nI 0)) (fun _ => rfl) (by decide) (by decide) (by decide) (Nat.le_of_ble_eq_true rfl) (Nat.le_of_ble_eq_true rfl) dX0_init_85 (fun q11 H hP hD hS => ?_)
  have hP : va_P K.1 vwCl [(h0, .inr (0, [.int 0, .ref q1, .ref q2, .ref q3, .ref q4, .ref q5, .ref q6, .ref q7, .ref q8, .ref q9, .ref q10, .null, .null])), (q1, .inl (K.2.1, 7, .inl (fun _ => nI 0))), (q2, .inl (K.2.1, 7, .inl (fun _ => nI 0))), (q3, .inl (K.2.1, 7, .inl (fun _ => nI 0))), (q4, .inl (K.2.1, 3, .inl (fun _ => nI 0))), (q5, .inl (K.2.1, 9, .inl (fun _ => nI 0))), (q6, .inl (K.2.1, 9, .inl (fun _ => nI 0))), (q7, .inl (K.2.1, 9, .inl (fun _ => nI 0))), (q8, .inl (K.2.2.1, 9, .inl (fun _ => nI 0))), (q9, .inl (K.2.2.2.1, 33, .inr (.inl (fun _ => lN 0)))), (q10, .inl (K.2.2.2.1, 33, .inr (.inl (fun _ => lN 0)))), (q11, .inl (K.2.1, 3, .inl (fun _ => nI 0)))] H := hP
  have hD : va_D A [(h0, .inr (0, [.int 0, .ref q1, .ref q2, .ref q3, .ref q4, .ref q5, .ref q6, .ref q7, .ref q8, .ref q9, .ref q10, .null, .null])), (q1, .inl (K.2.1, 7, .inl (fun _ => nI 0))), (q2, .inl (K.2.1, 7, .inl (fun _ => nI 0))), (q3, .inl (K.2.1, 7, .inl (fun _ => nI 0))), (q4, .inl (K.2.1, 3, .inl (fun _ => nI 0))), (q5, .inl (K.2.1, 9, .inl (fun _ => nI 0))), (q6, .inl (K.2.1, 9, .inl (fun _ => nI 0))), (q7, .inl (K.2.1, 9, .inl (fun _ => nI 0))), (q8, .inl (K.2.2.1, 9, .inl (fun _ => nI 0))), (q9, .inl (K.2.2.2.1, 33, .inr (.inl (fun _ => lN 0)))), (q10, .inl (K.2.2.2.1, 33, .inr (.inl (fun _ => lN 0)))), (q11, .inl (K.2.1, 3, .inl (fun _ => nI 0)))] := hD
  refine va_putF (ci := 0) (C := RX0) (T := TX0) (N := 13) hx hb hts in_X0 tyX0 tyX0_ok nmX0 hown hK hP hD hS 0 rfl rfl 11 (by decide) (hts _ q42) (fun _ h => h) rfl hin rfl (tyX0_ok 11 (by decide)) rfl rfl (Nat.le_of_ble_eq_true rfl) dX0_init_87 (fun H locs11 hP hD hS => ?_)
  have hP : va_P K.1 vwCl [(h0, .inr (0, [.int 0, .ref q1, .ref q2, .ref q3, .ref q4, .ref q5, .ref q6, .ref q7, .ref q8, .ref q9, .ref q10, .ref q11, .null])), (q1, .inl (K.2.1, 7, .inl (fun _ => nI 0))), (q2, .inl (K.2.1, 7, .inl (fun _ => nI 0))), (q3, .inl (K.2.1, 7, .inl (fun _ => nI 0))), (q4, .inl (K.2.1, 3, .inl (fun _ => nI 0))), (q5, .inl (K.2.1, 9, .inl (fun _ => nI 0))), (q6, .inl (K.2.1, 9, .inl (fun _ => nI 0))), (q7, .inl (K.2.1, 9, .inl (fun _ => nI 0))), (q8, .inl (K.2.2.1, 9, .inl (fun _ => nI 0))), (q9, .inl (K.2.2.2.1, 33, .inr (.inl (fun _ => lN 0)))), (q10, .inl (K.2.2.2.1, 33, .inr (.inl (fun _ => lN 0)))), (q11, .inl (K.2.1, 3, .inl (fun _ => nI 0)))] H := hP
  have hD : va_D A [(h0, .inr (0, [.int 0, .ref q1, .ref q2, .ref q3, .ref q4, .ref q5, .ref q6, .ref q7, .ref q8, .ref q9, .ref q10, .ref q11, .null])), (q1, .inl (K.2.1, 7, .inl (fun _ => nI 0))), (q2, .inl (K.2.1, 7, .inl (fun _ => nI 0))), (q3, .inl (K.2.1, 7, .inl (fun _ => nI 0))), (q4, .inl (K.2.1, 3, .inl (fun _ => nI 0))), (q5, .inl (K.2.1, 9, .inl (fun _ => nI 0))), (q6, .inl (K.2.1, 9, .inl (fun _ => nI 0))), (q7, .inl (K.2.1, 9, .inl (fun _ => nI 0))), (q8, .inl (K.2.2.1, 9, .inl (fun _ => nI 0))), (q9, .inl (K.2.2.2.1, 33, .inr (.inl (fun _ => lN 0)))), (q10, .inl (K.2.2.2.1, 33, .inr (.inl (fun _ => lN 0)))), (q11, .inl (K.2.1, 3, .inl (fun _ => nI 0)))] := hD
  refine lv_aload_n hx hb dX0_init_90 rfl (lv_at hl 0 rfl) ?_
  refine lv_iconst (v := 3) hx hb dX0_init_91 (by decide) ?_
  refine i_newa (ty := .byte) (N' := 3) hx hb rfl (Or.inl rfl) (hts _ q71) hK 0 rfl hP hD hS hA (3, .inl (fun _ => nI 0)) (fun _ => rfl) (by decide) (by decide) (by decide) (Nat.le_of_ble_eq_true rfl) (Nat.le_of_ble_eq_true rfl) dX0_init_92 (fun q12 H hP hD hS => ?_)
  have hP : va_P K.1 vwCl [(h0, .inr (0, [.int 0, .ref q1, .ref q2, .ref q3, .ref q4, .ref q5, .ref q6, .ref q7, .ref q8, .ref q9, .ref q10, .ref q11, .null])), (q1, .inl (K.2.1, 7, .inl (fun _ => nI 0))), (q2, .inl (K.2.1, 7, .inl (fun _ => nI 0))), (q3, .inl (K.2.1, 7, .inl (fun _ => nI 0))), (q4, .inl (K.2.1, 3, .inl (fun _ => nI 0))), (q5, .inl (K.2.1, 9, .inl (fun _ => nI 0))), (q6, .inl (K.2.1, 9, .inl (fun _ => nI 0))), (q7, .inl (K.2.1, 9, .inl (fun _ => nI 0))), (q8, .inl (K.2.2.1, 9, .inl (fun _ => nI 0))), (q9, .inl (K.2.2.2.1, 33, .inr (.inl (fun _ => lN 0)))), (q10, .inl (K.2.2.2.1, 33, .inr (.inl (fun _ => lN 0)))), (q11, .inl (K.2.1, 3, .inl (fun _ => nI 0))), (q12, .inl (K.2.1, 3, .inl (fun _ => nI 0)))] H := hP
  have hD : va_D A [(h0, .inr (0, [.int 0, .ref q1, .ref q2, .ref q3, .ref q4, .ref q5, .ref q6, .ref q7, .ref q8, .ref q9, .ref q10, .ref q11, .null])), (q1, .inl (K.2.1, 7, .inl (fun _ => nI 0))), (q2, .inl (K.2.1, 7, .inl (fun _ => nI 0))), (q3, .inl (K.2.1, 7, .inl (fun _ => nI 0))), (q4, .inl (K.2.1, 3, .inl (fun _ => nI 0))), (q5, .inl (K.2.1, 9, .inl (fun _ => nI 0))), (q6, .inl (K.2.1, 9, .inl (fun _ => nI 0))), (q7, .inl (K.2.1, 9, .inl (fun _ => nI 0))), (q8, .inl (K.2.2.1, 9, .inl (fun _ => nI 0))), (q9, .inl (K.2.2.2.1, 33, .inr (.inl (fun _ => lN 0)))), (q10, .inl (K.2.2.2.1, 33, .inr (.inl (fun _ => lN 0)))), (q11, .inl (K.2.1, 3, .inl (fun _ => nI 0))), (q12, .inl (K.2.1, 3, .inl (fun _ => nI 0)))] := hD
  refine va_putF (ci := 0) (C := RX0) (T := TX0) (N := 13) hx hb hts in_X0 tyX0 tyX0_ok nmX0 hown hK hP hD hS 0 rfl rfl 12 (by decide) (hts _ q43) (fun _ h => h) rfl hin rfl (tyX0_ok 12 (by decide)) rfl rfl (Nat.le_of_ble_eq_true rfl) dX0_init_94 (fun H locs12 hP hD hS => ?_)
  have hP : va_P K.1 vwCl [(h0, .inr (0, [.int 0, .ref q1, .ref q2, .ref q3, .ref q4, .ref q5, .ref q6, .ref q7, .ref q8, .ref q9, .ref q10, .ref q11, .ref q12])), (q1, .inl (K.2.1, 7, .inl (fun _ => nI 0))), (q2, .inl (K.2.1, 7, .inl (fun _ => nI 0))), (q3, .inl (K.2.1, 7, .inl (fun _ => nI 0))), (q4, .inl (K.2.1, 3, .inl (fun _ => nI 0))), (q5, .inl (K.2.1, 9, .inl (fun _ => nI 0))), (q6, .inl (K.2.1, 9, .inl (fun _ => nI 0))), (q7, .inl (K.2.1, 9, .inl (fun _ => nI 0))), (q8, .inl (K.2.2.1, 9, .inl (fun _ => nI 0))), (q9, .inl (K.2.2.2.1, 33, .inr (.inl (fun _ => lN 0)))), (q10, .inl (K.2.2.2.1, 33, .inr (.inl (fun _ => lN 0)))), (q11, .inl (K.2.1, 3, .inl (fun _ => nI 0))), (q12, .inl (K.2.1, 3, .inl (fun _ => nI 0)))] H := hP
  have hD : va_D A [(h0, .inr (0, [.int 0, .ref q1, .ref q2, .ref q3, .ref q4, .ref q5, .ref q6, .ref q7, .ref q8, .ref q9, .ref q10, .ref q11, .ref q12])), (q1, .inl (K.2.1, 7, .inl (fun _ => nI 0))), (q2, .inl (K.2.1, 7, .inl (fun _ => nI 0))), (q3, .inl (K.2.1, 7, .inl (fun _ => nI 0))), (q4, .inl (K.2.1, 3, .inl (fun _ => nI 0))), (q5, .inl (K.2.1, 9, .inl (fun _ => nI 0))), (q6, .inl (K.2.1, 9, .inl (fun _ => nI 0))), (q7, .inl (K.2.1, 9, .inl (fun _ => nI 0))), (q8, .inl (K.2.2.1, 9, .inl (fun _ => nI 0))), (q9, .inl (K.2.2.2.1, 33, .inr (.inl (fun _ => lN 0)))), (q10, .inl (K.2.2.2.1, 33, .inr (.inl (fun _ => lN 0)))), (q11, .inl (K.2.1, 3, .inl (fun _ => nI 0))), (q12, .inl (K.2.1, 3, .inl (fun _ => nI 0)))] := hD
  obtain ⟨qq, hqq⟩ : ∃ q : Nat → Nat, q = fun i => [h0, q1, q2, q3, q4, q5, q6, q7, q8, q9, q10, q11, q12].getD i 0 := ⟨_, rfl⟩
  have hP : va_P K.1 vwCl (eW K qq (zst 0)) H := by rw [zst_0, hqq]; exact hP
  have hD : va_D A (eW K qq (zst 0)) := by rw [zst_0, hqq]; exact hD
  have hq0 : qq 0 = h0 := by rw [hqq]; rfl
  rw [← hq0] at hl
  exact e_init_tail (X := ((p, l, e, rmE), (s, m, _, below), (meth, c, 12, 132), (MQ below (va_Qv (fun q : Nat → Nat => q 0 = h0) (fun q t => va_P K.1 vwCl (eW K q eZ) t.heap ∧ va_K K.1 vwCl (zt K) t ∧ va_D A (eW K q eZ)) A) _ s 12 132 A, A, K))) (q := qq) ⟨⟨hx, hb, hml, hown, hts⟩, hA, hK, rfl, hlocks, ⟨Nat.le_refl _, Nat.le_refl _⟩⟩ (fun H1 locs1 ls1 hP1 hD1 hS1 hl1 => W.vret hx hb hr (fun t ht hW => ⟨⟨qq, rfl, hq0, by rw [ht]; exact hP1, va_K.moved hW.alike hK, hD1⟩, hS1.F ht⟩) hS1.2.2 dX0_init_120 hlocks) H locs12 ls hP hD hS hl
set_option maxHeartbeats 4000000 in
/-- ReteEngineModel() -/
theorem m_init (l : Launch) (K : zK) (h0 sz : Nat) : Met l yX1_init (ws_ yX1_init cX1_init 1 none) rmM (va_Pc [.ref h0] (fun U => U.heap.size = sz ∧ va_P K.1 vwCl [(h0, .inr (1, mF0))] U.heap ∧ va_K K.1 vwCl (zt K) U ∧ va_D (fun _ => True) [(h0, .inr (1, mF0))])) (va_Qv (fun q : Nat → Nat => q 0 = h0) (fun q t => va_P K.1 vwCl (mW K q mZ) t.heap ∧ va_K K.1 vwCl (zt K) t ∧ va_D (va_A [(h0, .inr (1, mF0))] sz) (mW K q mZ)) (va_A [(h0, .inr (1, mF0))] sz)) 7 43 (va_A [(h0, .inr (1, mF0))] sz) := by
  refine Met.ofW (cc := cX1_init) (maxL := 1) (ret := none) (by decide) rfl ?_
  intro p e s m args below meth c s₁ B hml hv
  obtain ⟨rfl, hsz, hP, hK, hD0⟩ := hv
  have hx := B.exec
  have hb := B.bytes
  have hr := B.returns
  have hts := atoms_spec (ws := ws_ yX1_init cX1_init 1 none) B.pre
  have hts : ∀ w ∈ lw_all, w.before _ s = true := fun w h => hts w (List.mem_cons_of_mem _ h)
  have hown : s.vm.findClass RX1 = some m.cls := findClass_of_methodNamed B.named
  have hlocks := B.notSynchronized
  have hin : meth.name = "<init>" := (name_of_methodNamed B.named B.method).1
  subst hsz
  have hD := hD0.self (sz := s.heap.size)
  generalize hAe : va_A [(h0, .inr (1, mF0))] s.heap.size = A at hD ⊢
  have hA : ∀ q : Nat, s.heap.size ≤ q → A q := fun q h => by rw [← hAe]; exact Or.inr h
  have hS : va_S A s.heap s.heap [] := va_S.rf
  have hl := lv_entry ([.ref h0]) (n := 1) (Nat.le_of_ble_eq_true rfl)
  rw [lg_entry_eq]
  generalize (lg_sl ([.ref h0]) ++ List.replicate (1 - (lg_sl ([.ref h0])).length) Slot.unset).toArray = ls at hl ⊢
  have hl : lv_has ls 1 [(0, .ref h0)] := hl
  refine lv_aload_n hx hb dX1_init_0 rfl (lv_at hl 0 rfl) ?_
  refine W.objInit hx hb hown (hts _ q200) (hts _ q29) (hts _ q30) rfl (by rw [hml]; exact hl.1) rfl dX1_init_1 (Nat.le_of_ble_eq_true rfl) (Nat.le_of_ble_eq_true rfl) ?_
  refine W.eq (g2 := F0 m 4 ls []) rfl ?_
  refine lv_aload_n hx hb dX1_init_4 rfl (lv_at hl 0 rfl) ?_
  refine lv_bipush (v := 7) hx hb dX1_init_5 (by decide) ?_
  refine i_newa (ty := .boolean) (N' := 7) hx hb rfl (Or.inr (Or.inl rfl)) (hts _ q72) hK 1 rfl hP hD hS hA (7, .inl (fun _ => nI 0)) (fun _ => rfl) (by decide) (by decide) (by decide) (Nat.le_of_ble_eq_true rfl) (Nat.le_of_ble_eq_true rfl) dX1_init_7 (fun q1 H hP hD hS => ?_)
  have hP : va_P K.1 vwCl [(h0, .inr (1, [.null, .null, .null, .null, .null, .null, .null])), (q1, .inl (K.2.2.1, 7, .inl (fun _ => nI 0)))] H := hP
  have hD : va_D A [(h0, .inr (1, [.null, .null, .null, .null, .null, .null, .null])), (q1, .inl (K.2.2.1, 7, .inl (fun _ => nI 0)))] := hD
  refine va_put (ci := 1) (C := RX1) (T := TX1) (N := 7) hx hb hts in_X1 tyX1 tyX1_ok nmX1 hown hK hP hD hS 0 rfl rfl 0 (by decide) (hts _ q201) (fun _ h => h) rfl (tyX1_ok 0 (by decide)) rfl rfl (Nat.le_of_ble_eq_true rfl) dX1_init_9 (fun H locs1 hP hD hS => ?_)
  have hP : va_P K.1 vwCl [(h0, .inr (1, [.ref q1, .null, .null, .null, .null, .null, .null])), (q1, .inl (K.2.2.1, 7, .inl (fun _ => nI 0)))] H := hP
  have hD : va_D A [(h0, .inr (1, [.ref q1, .null, .null, .null, .null, .null, .null])), (q1, .inl (K.2.2.1, 7, .inl (fun _ => nI 0)))] := hD
  refine lv_aload_n hx hb dX1_init_12 rfl (lv_at hl 0 rfl) ?_
  refine lv_bipush (v := 7) hx hb dX1_init_13 (by decide) ?_
  refine i_newa (ty := .int) (N' := 7) hx hb rfl (Or.inr (Or.inr (Or.inr rfl))) (hts _ q223) hK 3 rfl hP hD hS hA (7, .inl (fun _ => nI 0)) (fun _ => rfl) (by decide) (by decide) (by decide) (Nat.le_of_ble_eq_true rfl) (Nat.le_of_ble_eq_true rfl) dX1_init_15 (fun q2 H hP hD hS => ?_)
  have hP : va_P K.1 vwCl [(h0, .inr (1, [.ref q1, .null, .null, .null, .null, .null, .null])), (q1, .inl (K.2.2.1, 7, .inl (fun _ => nI 0))), (q2, .inl (K.2.2.2.2, 7, .inl (fun _ => nI 0)))] H := hP
  have hD : va_D A [(h0, .inr (1, [.ref q1, .null, .null, .null, .null, .null, .null])), (q1, .inl (K.2.2.1, 7, .inl (fun _ => nI 0))), (q2, .inl (K.2.2.2.2, 7, .inl (fun _ => nI 0)))] := hD
  refine va_put (ci := 1) (C := RX1) (T := TX1) (N := 7) hx hb hts in_X1 tyX1 tyX1_ok nmX1 hown hK hP hD hS 0 rfl rfl 1 (by decide) (hts _ q202) (fun _ h => h) rfl (tyX1_ok 1 (by decide)) rfl rfl (Nat.le_of_ble_eq_true rfl) dX1_init_17 (fun H locs2 hP hD hS => ?_)
  have hP : va_P K.1 vwCl [(h0, .inr (1, [.ref q1, .ref q2, .null, .null, .null, .null, .null])), (q1, .inl (K.2.2.1, 7, .inl (fun _ => nI 0))), (q2, .inl (K.2.2.2.2, 7, .inl (fun _ => nI 0)))] H := hP
  have hD : va_D A [(h0, .inr (1, [.ref q1, .ref q2, .null, .null, .null, .null, .null])), (q1, .inl (K.2.2.1, 7, .inl (fun _ => nI 0))), (q2, .inl (K.2.2.2.2, 7, .inl (fun _ => nI 0)))] := hD
  refine lv_aload_n hx hb dX1_init_20 rfl (lv_at hl 0 rfl) ?_
  refine lv_bipush (v := 7) hx hb dX1_init_21 (by decide) ?_
  refine i_newa (ty := .int) (N' := 7) hx hb rfl (Or.inr (Or.inr (Or.inr rfl))) (hts _ q223) hK 3 rfl hP hD hS hA (7, .inl (fun _ => nI 0)) (fun _ => rfl) (by decide) (by decide) (by decide) (Nat.le_of_ble_eq_true rfl) (Nat.le_of_ble_eq_true rfl) dX1_init_23 (fun q3 H hP hD hS => ?_)
  have hP : va_P K.1 vwCl [(h0, .inr (1, [.ref q1, .ref q2, .null, .null, .null, .null, .null])), (q1, .inl (K.2.2.1, 7, .inl (fun _ => nI 0))), (q2, .inl (K.2.2.2.2, 7, .inl (fun _ => nI 0))), (q3, .inl (K.2.2.2.2, 7, .inl (fun _ => nI 0)))] H := hP
  have hD : va_D A [(h0, .inr (1, [.ref q1, .ref q2, .null, .null, .null, .null, .null])), (q1, .inl (K.2.2.1, 7, .inl (fun _ => nI 0))), (q2, .inl (K.2.2.2.2, 7, .inl (fun _ => nI 0))), (q3, .inl (K.2.2.2.2, 7, .inl (fun _ => nI 0)))] := hD
  refine va_put (ci := 1) (C := RX1) (T := TX1) (N := 7) hx hb hts in_X1 tyX1 tyX1_ok nmX1 hown hK hP hD hS 0 rfl rfl 2 (by decide) (hts _ q203) (fun _ h => h) rfl (tyX1_ok 2 (by decide)) rfl rfl (Nat.le_of_ble_eq_true rfl) dX1_init_25 (fun H locs3 hP hD hS => ?_)
  have hP : va_P K.1 vwCl [(h0, .inr (1, [.ref q1, .ref q2, .ref q3, .null, .null, .null, .null])), (q1, .inl (K.2.2.1, 7, .inl (fun _ => nI 0))), (q2, .inl (K.2.2.2.2, 7, .inl (fun _ => nI 0))), (q3, .inl (K.2.2.2.2, 7, .inl (fun _ => nI 0)))] H := hP
  have hD : va_D A [(h0, .inr (1, [.ref q1, .ref q2, .ref q3, .null, .null, .null, .null])), (q1, .inl (K.2.2.1, 7, .inl (fun _ => nI 0))), (q2, .inl (K.2.2.2.2, 7, .inl (fun _ => nI 0))), (q3, .inl (K.2.2.2.2, 7, .inl (fun _ => nI 0)))] := hD
  refine lv_aload_n hx hb dX1_init_28 rfl (lv_at hl 0 rfl) ?_
  refine lv_bipush (v := 7) hx hb dX1_init_29 (by decide) ?_
  refine i_newa (ty := .int) (N' := 7) hx hb rfl (Or.inr (Or.inr (Or.inr rfl))) (hts _ q223) hK 3 rfl hP hD hS hA (7, .inl (fun _ => nI 0)) (fun _ => rfl) (by decide) (by decide) (by decide) (Nat.le_of_ble_eq_true rfl) (Nat.le_of_ble_eq_true rfl) dX1_init_31 (fun q4 H hP hD hS => ?_)
  have hP : va_P K.1 vwCl [(h0, .inr (1, [.ref q1, .ref q2, .ref q3, .null, .null, .null, .null])), (q1, .inl (K.2.2.1, 7, .inl (fun _ => nI 0))), (q2, .inl (K.2.2.2.2, 7, .inl (fun _ => nI 0))), (q3, .inl (K.2.2.2.2, 7, .inl (fun _ => nI 0))), (q4, .inl (K.2.2.2.2, 7, .inl (fun _ => nI 0)))] H := hP
  have hD : va_D A [(h0, .inr (1, [.ref q1, .ref q2, .ref q3, .null, .null, .null, .null])), (q1, .inl (K.2.2.1, 7, .inl (fun _ => nI 0))), (q2, .inl (K.2.2.2.2, 7, .inl (fun _ => nI 0))), (q3, .inl (K.2.2.2.2, 7, .inl (fun _ => nI 0))), (q4, .inl (K.2.2.2.2, 7, .inl (fun _ => nI 0)))] := hD
  refine va_put (ci := 1) (C := RX1) (T := TX1) (N := 7) hx hb hts in_X1 tyX1 tyX1_ok nmX1 hown hK hP hD hS 0 rfl rfl 3 (by decide) (hts _ q204) (fun _ h => h) rfl (tyX1_ok 3 (by decide)) rfl rfl (Nat.le_of_ble_eq_true rfl) dX1_init_33 (fun H locs4 hP hD hS => ?_)
  have hP : va_P K.1 vwCl [(h0, .inr (1, [.ref q1, .ref q2, .ref q3, .ref q4, .null, .null, .null])), (q1, .inl (K.2.2.1, 7, .inl (fun _ => nI 0))), (q2, .inl (K.2.2.2.2, 7, .inl (fun _ => nI 0))), (q3, .inl (K.2.2.2.2, 7, .inl (fun _ => nI 0))), (q4, .inl (K.2.2.2.2, 7, .inl (fun _ => nI 0)))] H := hP
  have hD : va_D A [(h0, .inr (1, [.ref q1, .ref q2, .ref q3, .ref q4, .null, .null, .null])), (q1, .inl (K.2.2.1, 7, .inl (fun _ => nI 0))), (q2, .inl (K.2.2.2.2, 7, .inl (fun _ => nI 0))), (q3, .inl (K.2.2.2.2, 7, .inl (fun _ => nI 0))), (q4, .inl (K.2.2.2.2, 7, .inl (fun _ => nI 0)))] := hD
  refine lv_aload_n hx hb dX1_init_36 rfl (lv_at hl 0 rfl) ?_
  refine lv_iconst (v := 3) hx hb dX1_init_37 (by decide) ?_
  refine i_newa (ty := .int) (N' := 3) hx hb rfl (Or.inr (Or.inr (Or.inr rfl))) (hts _ q223) hK 3 rfl hP hD hS hA (3, .inl (fun _ => nI 0)) (fun _ => rfl) (by decide) (by decide) (by decide) (Nat.le_of_ble_eq_true rfl) (Nat.le_of_ble_eq_true rfl) dX1_init_38 (fun q5 H hP hD hS => ?_)
  have hP : va_P K.1 vwCl [(h0, .inr (1, [.ref q1, .ref q2, .ref q3, .ref q4, .null, .null, .null])), (q1, .inl (K.2.2.1, 7, .inl (fun _ => nI 0))), (q2, .inl (K.2.2.2.2, 7, .inl (fun _ => nI 0))), (q3, .inl (K.2.2.2.2, 7, .inl (fun _ => nI 0))), (q4, .inl (K.2.2.2.2, 7, .inl (fun _ => nI 0))), (q5, .inl (K.2.2.2.2, 3, .inl (fun _ => nI 0)))] H := hP
  have hD : va_D A [(h0, .inr (1, [.ref q1, .ref q2, .ref q3, .ref q4, .null, .null, .null])), (q1, .inl (K.2.2.1, 7, .inl (fun _ => nI 0))), (q2, .inl (K.2.2.2.2, 7, .inl (fun _ => nI 0))), (q3, .inl (K.2.2.2.2, 7, .inl (fun _ => nI 0))), (q4, .inl (K.2.2.2.2, 7, .inl (fun _ => nI 0))), (q5, .inl (K.2.2.2.2, 3, .inl (fun _ => nI 0)))] := hD
  refine va_put (ci := 1) (C := RX1) (T := TX1) (N := 7) hx hb hts in_X1 tyX1 tyX1_ok nmX1 hown hK hP hD hS 0 rfl rfl 4 (by decide) (hts _ q205) (fun _ h => h) rfl (tyX1_ok 4 (by decide)) rfl rfl (Nat.le_of_ble_eq_true rfl) dX1_init_40 (fun H locs5 hP hD hS => ?_)
  have hP : va_P K.1 vwCl [(h0, .inr (1, [.ref q1, .ref q2, .ref q3, .ref q4, .ref q5, .null, .null])), (q1, .inl (K.2.2.1, 7, .inl (fun _ => nI 0))), (q2, .inl (K.2.2.2.2, 7, .inl (fun _ => nI 0))), (q3, .inl (K.2.2.2.2, 7, .inl (fun _ => nI 0))), (q4, .inl (K.2.2.2.2, 7, .inl (fun _ => nI 0))), (q5, .inl (K.2.2.2.2, 3, .inl (fun _ => nI 0)))] H := hP
  have hD : va_D A [(h0, .inr (1, [.ref q1, .ref q2, .ref q3, .ref q4, .ref q5, .null, .null])), (q1, .inl (K.2.2.1, 7, .inl (fun _ => nI 0))), (q2, .inl (K.2.2.2.2, 7, .inl (fun _ => nI 0))), (q3, .inl (K.2.2.2.2, 7, .inl (fun _ => nI 0))), (q4, .inl (K.2.2.2.2, 7, .inl (fun _ => nI 0))), (q5, .inl (K.2.2.2.2, 3, .inl (fun _ => nI 0)))] := hD
  refine lv_aload_n hx hb dX1_init_43 rfl (lv_at hl 0 rfl) ?_
  refine lv_bipush (v := 9) hx hb dX1_init_44 (by decide) ?_
  refine i_newa (ty := .int) (N' := 9) hx hb rfl (Or.inr (Or.inr (Or.inr rfl))) (hts _ q223) hK 3 rfl hP hD hS hA (9, .inl (fun _ => nI 0)) (fun _ => rfl) (by decide) (by decide) (by decide) (Nat.le_of_ble_eq_true rfl) (Nat.le_of_ble_eq_true rfl) dX1_init_46 (fun q6 H hP hD hS => ?_)
  have hP : va_P K.1 vwCl [(h0, .inr (1, [.ref q1, .ref q2, .ref q3, .ref q4, .ref q5, .null, .null])), (q1, .inl (K.2.2.1, 7, .inl (fun _ => nI 0))), (q2, .inl (K.2.2.2.2, 7, .inl (fun _ => nI 0))), (q3, .inl (K.2.2.2.2, 7, .inl (fun _ => nI 0))), (q4, .inl (K.2.2.2.2, 7, .inl (fun _ => nI 0))), (q5, .inl (K.2.2.2.2, 3, .inl (fun _ => nI 0))), (q6, .inl (K.2.2.2.2, 9, .inl (fun _ => nI 0)))] H := hP
  have hD : va_D A [(h0, .inr (1, [.ref q1, .ref q2, .ref q3, .ref q4, .ref q5, .null, .null])), (q1, .inl (K.2.2.1, 7, .inl (fun _ => nI 0))), (q2, .inl (K.2.2.2.2, 7, .inl (fun _ => nI 0))), (q3, .inl (K.2.2.2.2, 7, .inl (fun _ => nI 0))), (q4, .inl (K.2.2.2.2, 7, .inl (fun _ => nI 0))), (q5, .inl (K.2.2.2.2, 3, .inl (fun _ => nI 0))), (q6, .inl (K.2.2.2.2, 9, .inl (fun _ => nI 0)))] := hD
  refine va_put (ci := 1) (C := RX1) (T := TX1) (N := 7) hx hb hts in_X1 tyX1 tyX1_ok nmX1 hown hK hP hD hS 0 rfl rfl 5 (by decide) (hts _ q206) (fun _ h => h) rfl (tyX1_ok 5 (by decide)) rfl rfl (Nat.le_of_ble_eq_true rfl) dX1_init_48 (fun H locs6 hP hD hS => ?_)
  have hP : va_P K.1 vwCl [(h0, .inr (1, [.ref q1, .ref q2, .ref q3, .ref q4, .ref q5, .ref q6, .null])), (q1, .inl (K.2.2.1, 7, .inl (fun _ => nI 0))), (q2, .inl (K.2.2.2.2, 7, .inl (fun _ => nI 0))), (q3, .inl (K.2.2.2.2, 7, .inl (fun _ => nI 0))), (q4, .inl (K.2.2.2.2, 7, .inl (fun _ => nI 0))), (q5, .inl (K.2.2.2.2, 3, .inl (fun _ => nI 0))), (q6, .inl (K.2.2.2.2, 9, .inl (fun _ => nI 0)))] H := hP
  have hD : va_D A [(h0, .inr (1, [.ref q1, .ref q2, .ref q3, .ref q4, .ref q5, .ref q6, .null])), (q1, .inl (K.2.2.1, 7, .inl (fun _ => nI 0))), (q2, .inl (K.2.2.2.2, 7, .inl (fun _ => nI 0))), (q3, .inl (K.2.2.2.2, 7, .inl (fun _ => nI 0))), (q4, .inl (K.2.2.2.2, 7, .inl (fun _ => nI 0))), (q5, .inl (K.2.2.2.2, 3, .inl (fun _ => nI 0))), (q6, .inl (K.2.2.2.2, 9, .inl (fun _ => nI 0)))] := hD
  refine lv_aload_n hx hb dX1_init_51 rfl (lv_at hl 0 rfl) ?_
  refine lv_iconst (v := 3) hx hb dX1_init_52 (by decide) ?_
  refine i_newa (ty := .int) (N' := 3) hx hb rfl (Or.inr (Or.inr (Or.inr rfl))) (hts _ q223) hK 3 rfl hP hD hS hA (3, .inl (fun _ => nI 0)) (fun _ => rfl) (by decide) (by decide) (by decide) (Nat.le_of_ble_eq_true rfl) (Nat.le_of_ble_eq_true rfl) dX1_init_53 (fun q7 H hP hD hS => ?_)
  have hP : va_P K.1 vwCl [(h0, .inr (1, [.ref q1, .ref q2, .ref q3, .ref q4, .ref q5, .ref q6, .null])), (q1, .inl (K.2.2.1, 7, .inl (fun _ => nI 0))), (q2, .inl (K.2.2.2.2, 7, .inl (fun _ => nI 0))), (q3, .inl (K.2.2.2.2, 7, .inl (fun _ => nI 0))), (q4, .inl (K.2.2.2.2, 7, .inl (fun _ => nI 0))), (q5, .inl (K.2.2.2.2, 3, .inl (fun _ => nI 0))), (q6, .inl (K.2.2.2.2, 9, .inl (fun _ => nI 0))), (q7, .inl (K.2.2.2.2, 3, .inl (fun _ => nI 0)))] H := hP
  have hD : va_D A [(h0, .inr (1, [.ref q1, .ref q2, .ref q3, .ref q4, .ref q5, .ref q6, .null])), (q1, .inl (K.2.2.1, 7, .inl (fun _ => nI 0))), (q2, .inl (K.2.2.2.2, 7, .inl (fun _ => nI 0))), (q3, .inl (K.2.2.2.2, 7, .inl (fun _ => nI 0))), (q4, .inl (K.2.2.2.2, 7, .inl (fun _ => nI 0))), (q5, .inl (K.2.2.2.2, 3, .inl (fun _ => nI 0))), (q6, .inl (K.2.2.2.2, 9, .inl (fun _ => nI 0))), (q7, .inl (K.2.2.2.2, 3, .inl (fun _ => nI 0)))] := hD
  refine va_put (ci := 1) (C := RX1) (T := TX1) (N := 7) hx hb hts in_X1 tyX1 tyX1_ok nmX1 hown hK hP hD hS 0 rfl rfl 6 (by decide) (hts _ q207) (fun _ h => h) rfl (tyX1_ok 6 (by decide)) rfl rfl (Nat.le_of_ble_eq_true rfl) dX1_init_55 (fun H locs7 hP hD hS => ?_)
  have hP : va_P K.1 vwCl [(h0, .inr (1, [.ref q1, .ref q2, .ref q3, .ref q4, .ref q5, .ref q6, .ref q7])), (q1, .inl (K.2.2.1, 7, .inl (fun _ => nI 0))), (q2, .inl (K.2.2.2.2, 7, .inl (fun _ => nI 0))), (q3, .inl (K.2.2.2.2, 7, .inl (fun _ => nI 0))), (q4, .inl (K.2.2.2.2, 7, .inl (fun _ => nI 0))), (q5, .inl (K.2.2.2.2, 3, .inl (fun _ => nI 0))), (q6, .inl (K.2.2.2.2, 9, .inl (fun _ => nI 0))), (q7, .inl (K.2.2.2.2, 3, .inl (fun _ => nI 0)))] H := hP
  have hD : va_D A [(h0, .inr (1, [.ref q1, .ref q2, .ref q3, .ref q4, .ref q5, .ref q6, .ref q7])), (q1, .inl (K.2.2.1, 7, .inl (fun _ => nI 0))), (q2, .inl (K.2.2.2.2, 7, .inl (fun _ => nI 0))), (q3, .inl (K.2.2.2.2, 7, .inl (fun _ => nI 0))), (q4, .inl (K.2.2.2.2, 7, .inl (fun _ => nI 0))), (q5, .inl (K.2.2.2.2, 3, .inl (fun _ => nI 0))), (q6, .inl (K.2.2.2.2, 9, .inl (fun _ => nI 0))), (q7, .inl (K.2.2.2.2, 3, .inl (fun _ => nI 0)))] := hD
  obtain ⟨qq, hqq⟩ : ∃ q : Nat → Nat, q = fun i => [h0, q1, q2, q3, q4, q5, q6, q7].getD i 0 := ⟨_, rfl⟩
  have hP : va_P K.1 vwCl (mW K qq mZ) H := by rw [hqq]; exact hP
  have hD : va_D A (mW K qq mZ) := by rw [hqq]; exact hD
  have hq0 : qq 0 = h0 := by rw [hqq]; rfl
  exact W.vret hx hb hr (fun t ht hW => ⟨⟨qq, rfl, hq0, by rw [ht]; exact hP, va_K.moved hW.alike hK, hD⟩, hS.F ht⟩) hS.2.2 dX1_init_58 hlocks
end
section
set_option maxRecDepth 100000
/-! THE CLAIM OUT OF ONE WALK OF THE LAW'S BODY. Your part is whole_start (and what it stands on); all else here is the same for every law, but numbers. -/
def R_law : String := "ReteEngineLaw"
def lw_P (b : Addr) (xs : List Int32) (args : Array Value) (s : State) : Prop := args = #[.ref b] ∧ s.IntsAt b xs ∧ xs.length ≤ 320 ∧ (Jvm.Cond.and given_1 narrow_1).before args s = true
def lw_Q (_ : Array Value) (s : State) (o : Outcome) (t : State) : Prop := o = .returned (some (.int 1)) ∧ Framed s o t [] 600000 7290000
def lw_Z (below : List Frame) (a : Array Value) (s : State) : State → Prop := fun t => ∃ o, t.status = .running ∧ Ended t below o ∧ lw_Q a s o t
/-- the law's own end, with 1 on the stack, nothing written that was there before, its room as the claim has it -/
theorem lw_ret {p : Program} {l : Launch} {e : Env} {s : State} {m : MethodId} {below : List Frame} {meth : Method} {c : Code} {b : Nat} (hx : p.tables.exec = Jvm.exec) (hb : c.code = code) (hr : meth.sig.returnType = ret) (hlocks : meth.locks = false) {pc : Nat} {H : Heap} {ls : Array Slot} (hdg : decode code pc = .ok (.ireturn, 1)) : W p l e room_1 s m #[Value.ref b] below meth c H [] 600000 7290000 (lw_Z below #[Value.ref b] s) (F0 m pc ls [.int 1]) := by
  intro T hT X
  obtain ⟨fs, hret, hrun, hended, hW, hframe⟩ := X.leave (v := some (.int 1)) (hlocks := hlocks) (fun h => by rw [hr] at h; cases h)
  have hmeth' : T.vm.method? m = some meth := X.method'
  refine ⟨T.setFrames fs, ?_, .returned (some (.int 1)), hrun, hended, rfl, ⟨_, rfl⟩, hW, hframe⟩
  jvm_step X.here [X.here.top, hx, hb, hdg, hmeth', hr, ret, narrow_b1]
  (try refine ⟨rfl, ?_⟩); (try refine ⟨rfl, ?_⟩)
  first | (intro acts; rw [hret _ acts rfl rfl rfl]) | rw [hret _ _ rfl rfl rfl]
  exact Steps.refl _
/-- what holds at the law's entry: the machine, the code, the tables' words (any of lw_tbl by 'hts w (by decide +kernel)'), the script of L ints xs at the cell b, what the Statement gives of the start (any of its parts by flat_of_before) -/
def lw_At (p : Program) (s : State) (m : MethodId) (meth : Method) (c : Code) (b L : Nat) (xs : Nat → Int32) : Prop :=
  p.tables.exec = Jvm.exec ∧ c.code = code ∧ meth.sig.returnType = ret ∧ c.maxLocals = 4 ∧ s.vm.findClass R_law = some m.cls ∧ (∀ w ∈ lw_tbl, w.before #[Value.ref b] s = true) ∧ va_X b L xs s s.heap ∧ b < s.heap.size ∧ meth.locks = false ∧ (Jvm.Cond.and given_1 narrow_1).before #[Value.ref b] s = true
/-! the law's world: the engine's cells and the model's -/
def lawW (K : zK) (q q' : Nat → Nat) (Z : ES × ES) : va_W := eW K q Z.1 ++ mW K q' Z.2
section LROWS
variable {X : zX} {nL : Nat} {own : String} {R : Room} {cc : ByteArray} {S T : ES} {lv : List (Nat × Value)} {pc : Nat} {q q' : Nat → Nat}
theorem z_callE {y : MethodName} {bytes : ByteArray} {maxL index n : Nat} {ret : Option FieldType} {rm : Room} {As rest stk : List Value} {post : Int32 → ES → Prop} (hc : zC X cc nL own R) (hM : zMi (zx_l X) y bytes maxL ret rm (zx_K X) (eW (zx_K X) q) S (.ref (q 0) :: As) post) (hT : GoodIn lw_all (wsV own index RX0 y (ws_ y bytes maxL ret))) (hd : y.cls = RX0 ∧ y.cls ≠ "java/lang/invoke/MethodHandle" ∧ y.cls ≠ "java/lang/invoke/VarHandle" ∧ (parseMethodDescriptor y.desc).map (fun d => d.parameters.length) = some n) (hR : (rm.cells = 0 ∧ rm.slots = 0) ∧ rm.frames + 1 ≤ R.frames ∧ 8 + (maxL + 11) + rm.locals ≤ R.locals) (hn : As.length = n) (hst : stk = As.reverse ++ .ref (q 0) :: rest) (hW : (rest.map fun v => v.category).sum ≤ 8) (hdg : decode cc pc = .ok (.invokevirtual index, 3)) (kk : ∀ (r : Int32) (Z : ES), post r Z → zG X (lawW (zx_K X) q q') nL (Z, T) lv (pc + 3) (.int r :: rest)) : zG X (lawW (zx_K X) q q') nL (S, T) lv pc stk := by
  intro H locs ls hP hD hS hl
  obtain ⟨⟨hx, hb, hml, hown, hts⟩, hA, hK, hRm, hlk, hf⟩ := hc
  subst hst
  have hP : va_P (zx_K X).1 vwCl (eW (zx_K X) q S ++ mW (zx_K X) q' T) H := hP
  have hD : va_D (zx_A X) (eW (zx_K X) q S ++ mW (zx_K X) q' T) := hD
  have hPc : va_P (zx_K X).1 vwCl (eW (zx_K X) q S) H := hP.sub [0, 1, 2, 3, 4, 5, 6, 7, 8, 9, 10, 11, 12] rfl
  have hDc : va_D (zx_A X) (eW (zx_K X) q S) := hD.sub [0, 1, 2, 3, 4, 5, 6, 7, 8, 9, 10, 11, 12] (by decide) rfl
  have hFc := va_free (wc := eW (zx_K X) q S) hD hS hA [0, 1, 2, 3, 4, 5, 6, 7, 8, 9, 10, 11, 12] rfl
  refine va_calli (va_runV (As := As) (rest := rest) ⟨hx, hb, hml, hown, hts⟩ (hM H.size) (cwV n hts hT rfl hR.1.1 hR.1.2 hd (by rw [hRm]; exact hR.2)) ⟨z_blind, va_recv hK hPc (ci := 0) (q0 := 0) rfl rfl, fun U hU hW => ⟨rfl, by rw [hU], by rw [hU]; exact hPc, va_K.moved hW.alike hK, hDc.weaken (fun _ _ _ _ => trivial)⟩⟩ rfl hn hl.1 rfl (lv_room hW) hdg ⟨by rw [hRm]; exact hf.1, by rw [hRm]; exact hf.2⟩) hS (fun q _ h => hFc q h) hFc (fun r Z t H1 locs1 ht hvm hp hB hz1 hk1 hS1 => ?_)
  obtain ⟨hP1, hK1, hD1⟩ := hB
  rw [ht] at hP1
  obtain ⟨hP2, hD2⟩ := va_join (wr := mW (zx_K X) q' T) (w1 := eW (zx_K X) q Z) hP hD [0, 1, 2, 3, 4, 5, 6, 7, 8, 9, 10, 11, 12] [13, 14, 15, 16, 17, 18, 19, 20] rfl rfl (by decide) (by decide) hk1 hFc hP1 hD1
  exact kk r Z hp H1 locs1 ls (hP2.sub [8, 9, 10, 11, 12, 13, 14, 15, 16, 17, 18, 19, 20, 0, 1, 2, 3, 4, 5, 6, 7] rfl) (hD2.sub [8, 9, 10, 11, 12, 13, 14, 15, 16, 17, 18, 19, 20, 0, 1, 2, 3, 4, 5, 6, 7] (by decide) rfl) hS1 hl
theorem z_callM {y : MethodName} {bytes : ByteArray} {maxL index n : Nat} {ret : Option FieldType} {rm : Room} {As rest stk : List Value} {post : Int32 → ES → Prop} (hc : zC X cc nL own R) (hM : zMi (zx_l X) y bytes maxL ret rm (zx_K X) (mW (zx_K X) q') T (.ref (q' 0) :: As) post) (hT : GoodIn lw_all (wsV own index RX1 y (ws_ y bytes maxL ret))) (hd : y.cls = RX1 ∧ y.cls ≠ "java/lang/invoke/MethodHandle" ∧ y.cls ≠ "java/lang/invoke/VarHandle" ∧ (parseMethodDescriptor y.desc).map (fun d => d.parameters.length) = some n) (hR : (rm.cells = 0 ∧ rm.slots = 0) ∧ rm.frames + 1 ≤ R.frames ∧ 8 + (maxL + 11) + rm.locals ≤ R.locals) (hn : As.length = n) (hst : stk = As.reverse ++ .ref (q' 0) :: rest) (hW : (rest.map fun v => v.category).sum ≤ 8) (hdg : decode cc pc = .ok (.invokevirtual index, 3)) (kk : ∀ (r : Int32) (Z : ES), post r Z → zG X (lawW (zx_K X) q q') nL (S, Z) lv (pc + 3) (.int r :: rest)) : zG X (lawW (zx_K X) q q') nL (S, T) lv pc stk := by
  intro H locs ls hP hD hS hl
  obtain ⟨⟨hx, hb, hml, hown, hts⟩, hA, hK, hRm, hlk, hf⟩ := hc
  subst hst
  have hP : va_P (zx_K X).1 vwCl (eW (zx_K X) q S ++ mW (zx_K X) q' T) H := hP
  have hD : va_D (zx_A X) (eW (zx_K X) q S ++ mW (zx_K X) q' T) := hD
  have hPc : va_P (zx_K X).1 vwCl (mW (zx_K X) q' T) H := hP.sub [13, 14, 15, 16, 17, 18, 19, 20] rfl
  have hDc : va_D (zx_A X) (mW (zx_K X) q' T) := hD.sub [13, 14, 15, 16, 17, 18, 19, 20] (by decide) rfl
  have hFc := va_free (wc := mW (zx_K X) q' T) hD hS hA [13, 14, 15, 16, 17, 18, 19, 20] rfl
  refine va_calli (va_runV (As := As) (rest := rest) ⟨hx, hb, hml, hown, hts⟩ (hM H.size) (cwV n hts hT rfl hR.1.1 hR.1.2 hd (by rw [hRm]; exact hR.2)) ⟨z_blind, va_recv hK hPc (ci := 1) (q0 := 0) rfl rfl, fun U hU hW => ⟨rfl, by rw [hU], by rw [hU]; exact hPc, va_K.moved hW.alike hK, hDc.weaken (fun _ _ _ _ => trivial)⟩⟩ rfl hn hl.1 rfl (lv_room hW) hdg ⟨by rw [hRm]; exact hf.1, by rw [hRm]; exact hf.2⟩) hS (fun q _ h => hFc q h) hFc (fun r Z t H1 locs1 ht hvm hp hB hz1 hk1 hS1 => ?_)
  obtain ⟨hP1, hK1, hD1⟩ := hB
  rw [ht] at hP1
  obtain ⟨hP2, hD2⟩ := va_join (wr := eW (zx_K X) q S) (w1 := mW (zx_K X) q' Z) hP hD [13, 14, 15, 16, 17, 18, 19, 20] [0, 1, 2, 3, 4, 5, 6, 7, 8, 9, 10, 11, 12] rfl rfl (by decide) (by decide) hk1 hFc hP1 hD1
  exact kk r Z hp H1 locs1 ls hP2 hD2 hS1 hl
end LROWS
section LROWS2
variable {σ : Type} {X : zX} {w : σ → va_W} {nL : Nat} {own : String} {R : Room} {cc : ByteArray} {S : σ} {lv : List (Nat × Value)} {pc : Nat} {st : List Value}
theorem z_sld {b L k : Nat} {xs : Nat → Int32} (hc : zC X cc nL own R) (hX : va_X b L xs (zx_s X) (zx_s X).heap) (hbl : b < (zx_s X).heap.size) (hbA : ¬ zx_A X b) (hk : k < L) (hL : L < 2 ^ 31) (hd : decode cc pc = .ok (.iaload, 1)) (kk : zG X w nL S lv (pc + 1) (.int (xs k) :: st)) : zG X w nL S lv pc (.int (nI k) :: .ref b :: st) := fun H locs ls hP hD hS hl => va_sld hc.1.1 hc.1.2.1 hX hbl hbA hS (vp_in_nI hk hL) hd (by rw [nI_clamp (Nat.lt_trans hk hL)]; exact kk H locs ls hP hD hS hl)
theorem z_slen {b L : Nat} {xs : Nat → Int32} (hc : zC X cc nL own R) (hX : va_X b L xs (zx_s X) (zx_s X).heap) (hbl : b < (zx_s X).heap.size) (hbA : ¬ zx_A X b) (hd : decode cc pc = .ok (.arraylength, 1)) (kk : zG X w nL S lv (pc + 1) (.int (nI L) :: st)) : zG X w nL S lv pc (.ref b :: st) := fun H locs ls hP hD hS hl => va_slen hc.1.1 hc.1.2.1 hX hbl hbA hS hd (kk H locs ls hP hD hS hl)
theorem z_tabIn (hc : zC X cc nL own R) {dflt lo hi : Int} {offs : Array Int} {len : Nat} {x : Int32} {off : Int} (tgt : Nat) (hd : decode cc pc = .ok (.tableswitch dflt lo hi offs, len)) (h1 : ¬ x.toInt < lo) (h2 : ¬ hi < x.toInt) (ho : offs[(x.toInt - lo).toNat]? = some off) (ht : (pc : Int) + off = (tgt : Int)) (k : zG X w nL S lv tgt st) : zG X w nL S lv pc (.int x :: st) := z_row (fun _ _ _ _ kk => lv_tableIn hc.1.1 hc.1.2.1 hd h1 h2 ho ht kk) k
theorem z_tabOut (hc : zC X cc nL own R) {dflt lo hi : Int} {offs : Array Int} {len : Nat} {x : Int32} (tgt : Nat) (hd : decode cc pc = .ok (.tableswitch dflt lo hi offs, len)) (h : x.toInt < lo ∨ hi < x.toInt) (ht : (pc : Int) + dflt = (tgt : Int)) (k : zG X w nL S lv tgt st) : zG X w nL S lv pc (.int x :: st) := z_row (fun _ _ _ _ kk => lv_tableOut hc.1.1 hc.1.2.1 hd h ht kk) k
end LROWS2
theorem gLX0_condition : GoodIn lw_all (wsV R_law 13 RX0 yX0_condition (ws_ yX0_condition cX0_condition 4 (some .int))) := lw_V q74 q75 q76 q21 q77
theorem aLX0_condition : yX0_condition.cls = RX0 ∧ yX0_condition.cls ≠ "java/lang/invoke/MethodHandle" ∧ yX0_condition.cls ≠ "java/lang/invoke/VarHandle" ∧ (parseMethodDescriptor yX0_condition.desc).map (fun d => d.parameters.length) = some 2 := by decide +kernel
theorem gLX1_condition : GoodIn lw_all (wsV R_law 17 RX1 yX1_condition (ws_ yX1_condition cX1_condition 3 (some .int))) := lw_V q224 q225 q226 q22 q227
theorem aLX1_condition : yX1_condition.cls = RX1 ∧ yX1_condition.cls ≠ "java/lang/invoke/MethodHandle" ∧ yX1_condition.cls ≠ "java/lang/invoke/VarHandle" ∧ (parseMethodDescriptor yX1_condition.desc).map (fun d => d.parameters.length) = some 2 := by decide +kernel
theorem gLX0_drop : GoodIn lw_all (wsV R_law 18 RX0 yX0_drop (ws_ yX0_drop cX0_drop 2 (some .int))) := lw_V q131 q132 q133 q21 q134
theorem aLX0_drop : yX0_drop.cls = RX0 ∧ yX0_drop.cls ≠ "java/lang/invoke/MethodHandle" ∧ yX0_drop.cls ≠ "java/lang/invoke/VarHandle" ∧ (parseMethodDescriptor yX0_drop.desc).map (fun d => d.parameters.length) = some 1 := by decide +kernel
theorem gLX1_drop : GoodIn lw_all (wsV R_law 22 RX1 yX1_drop (ws_ yX1_drop cX1_drop 2 (some .int))) := lw_V q232 q233 q234 q22 q235
theorem aLX1_drop : yX1_drop.cls = RX1 ∧ yX1_drop.cls ≠ "java/lang/invoke/MethodHandle" ∧ yX1_drop.cls ≠ "java/lang/invoke/VarHandle" ∧ (parseMethodDescriptor yX1_drop.desc).map (fun d => d.parameters.length) = some 1 := by decide +kernel
theorem gLX0_add : GoodIn lw_all (wsV R_law 23 RX0 yX0_add (ws_ yX0_add cX0_add 6 (some .int))) := lw_V q135 q136 q137 q21 q138
theorem aLX0_add : yX0_add.cls = RX0 ∧ yX0_add.cls ≠ "java/lang/invoke/MethodHandle" ∧ yX0_add.cls ≠ "java/lang/invoke/VarHandle" ∧ (parseMethodDescriptor yX0_add.desc).map (fun d => d.parameters.length) = some 3 := by decide +kernel
theorem gLX1_add : GoodIn lw_all (wsV R_law 27 RX1 yX1_add (ws_ yX1_add cX1_add 5 (some .int))) := lw_V q236 q237 q238 q22 q239
theorem aLX1_add : yX1_add.cls = RX1 ∧ yX1_add.cls ≠ "java/lang/invoke/MethodHandle" ∧ yX1_add.cls ≠ "java/lang/invoke/VarHandle" ∧ (parseMethodDescriptor yX1_add.desc).map (fun d => d.parameters.length) = some 3 := by decide +kernel
theorem gLX0_remove : GoodIn lw_all (wsV R_law 28 RX0 yX0_remove (ws_ yX0_remove cX0_remove 3 (some .boolean))) := lw_V q142 q143 q144 q21 q145
theorem aLX0_remove : yX0_remove.cls = RX0 ∧ yX0_remove.cls ≠ "java/lang/invoke/MethodHandle" ∧ yX0_remove.cls ≠ "java/lang/invoke/VarHandle" ∧ (parseMethodDescriptor yX0_remove.desc).map (fun d => d.parameters.length) = some 1 := by decide +kernel
theorem gLX1_remove : GoodIn lw_all (wsV R_law 32 RX1 yX1_remove (ws_ yX1_remove cX1_remove 2 (some .boolean))) := lw_V q244 q245 q246 q22 q247
theorem aLX1_remove : yX1_remove.cls = RX1 ∧ yX1_remove.cls ≠ "java/lang/invoke/MethodHandle" ∧ yX1_remove.cls ≠ "java/lang/invoke/VarHandle" ∧ (parseMethodDescriptor yX1_remove.desc).map (fun d => d.parameters.length) = some 1 := by decide +kernel
theorem gLX0_facts : GoodIn lw_all (wsV R_law 33 RX0 yX0_facts (ws_ yX0_facts cX0_facts 1 (some .int))) := lw_V q146 q147 q148 q21 q149
theorem aLX0_facts : yX0_facts.cls = RX0 ∧ yX0_facts.cls ≠ "java/lang/invoke/MethodHandle" ∧ yX0_facts.cls ≠ "java/lang/invoke/VarHandle" ∧ (parseMethodDescriptor yX0_facts.desc).map (fun d => d.parameters.length) = some 0 := by decide +kernel
theorem gLX1_facts : GoodIn lw_all (wsV R_law 37 RX1 yX1_facts (ws_ yX1_facts cX1_facts 3 (some .int))) := lw_V q248 q249 q250 q22 q251
theorem aLX1_facts : yX1_facts.cls = RX1 ∧ yX1_facts.cls ≠ "java/lang/invoke/MethodHandle" ∧ yX1_facts.cls ≠ "java/lang/invoke/VarHandle" ∧ (parseMethodDescriptor yX1_facts.desc).map (fun d => d.parameters.length) = some 0 := by decide +kernel
theorem gLX0_matches : GoodIn lw_all (wsV R_law 38 RX0 yX0_matches (ws_ yX0_matches cX0_matches 2 (some .int))) := lw_V q150 q151 q152 q21 q153
theorem aLX0_matches : yX0_matches.cls = RX0 ∧ yX0_matches.cls ≠ "java/lang/invoke/MethodHandle" ∧ yX0_matches.cls ≠ "java/lang/invoke/VarHandle" ∧ (parseMethodDescriptor yX0_matches.desc).map (fun d => d.parameters.length) = some 1 := by decide +kernel
theorem gLX1_matches : GoodIn lw_all (wsV R_law 41 RX1 yX1_matches (ws_ yX1_matches cX1_matches 2 (some .int))) := lw_V q252 q253 q254 q22 q255
theorem aLX1_matches : yX1_matches.cls = RX1 ∧ yX1_matches.cls ≠ "java/lang/invoke/MethodHandle" ∧ yX1_matches.cls ≠ "java/lang/invoke/VarHandle" ∧ (parseMethodDescriptor yX1_matches.desc).map (fun d => d.parameters.length) = some 1 := by decide +kernel
theorem gLX0_match : GoodIn lw_all (wsV R_law 42 RX0 yX0_match (ws_ yX0_match cX0_match 7 (some .int))) := lw_V q158 q159 q160 q21 q161
theorem aLX0_match : yX0_match.cls = RX0 ∧ yX0_match.cls ≠ "java/lang/invoke/MethodHandle" ∧ yX0_match.cls ≠ "java/lang/invoke/VarHandle" ∧ (parseMethodDescriptor yX0_match.desc).map (fun d => d.parameters.length) = some 2 := by decide +kernel
theorem gLX1_match : GoodIn lw_all (wsV R_law 45 RX1 yX1_match (ws_ yX1_match cX1_match 5 (some .int))) := lw_V q276 q277 q278 q22 q279
theorem aLX1_match : yX1_match.cls = RX1 ∧ yX1_match.cls ≠ "java/lang/invoke/MethodHandle" ∧ yX1_match.cls ≠ "java/lang/invoke/VarHandle" ∧ (parseMethodDescriptor yX1_match.desc).map (fun d => d.parameters.length) = some 2 := by decide +kernel
theorem gLX0_ready : GoodIn lw_all (wsV R_law 46 RX0 yX0_ready (ws_ yX0_ready cX0_ready 3 (some .int))) := lw_V q162 q163 q164 q21 q165
theorem aLX0_ready : yX0_ready.cls = RX0 ∧ yX0_ready.cls ≠ "java/lang/invoke/MethodHandle" ∧ yX0_ready.cls ≠ "java/lang/invoke/VarHandle" ∧ (parseMethodDescriptor yX0_ready.desc).map (fun d => d.parameters.length) = some 0 := by decide +kernel
theorem gLX1_ready : GoodIn lw_all (wsV R_law 49 RX1 yX1_ready (ws_ yX1_ready cX1_ready 3 (some .int))) := lw_V q280 q281 q282 q22 q283
theorem aLX1_ready : yX1_ready.cls = RX1 ∧ yX1_ready.cls ≠ "java/lang/invoke/MethodHandle" ∧ yX1_ready.cls ≠ "java/lang/invoke/VarHandle" ∧ (parseMethodDescriptor yX1_ready.desc).map (fun d => d.parameters.length) = some 0 := by decide +kernel
theorem gLX0_uses : GoodIn lw_all (wsV R_law 50 RX0 yX0_uses (ws_ yX0_uses cX0_uses 6 (some .int))) := lw_V q167 q168 q169 q21 q170
theorem aLX0_uses : yX0_uses.cls = RX0 ∧ yX0_uses.cls ≠ "java/lang/invoke/MethodHandle" ∧ yX0_uses.cls ≠ "java/lang/invoke/VarHandle" ∧ (parseMethodDescriptor yX0_uses.desc).map (fun d => d.parameters.length) = some 1 := by decide +kernel
theorem gLX1_uses : GoodIn lw_all (wsV R_law 53 RX1 yX1_uses (ws_ yX1_uses cX1_uses 6 (some .int))) := lw_V q285 q286 q287 q22 q288
theorem aLX1_uses : yX1_uses.cls = RX1 ∧ yX1_uses.cls ≠ "java/lang/invoke/MethodHandle" ∧ yX1_uses.cls ≠ "java/lang/invoke/VarHandle" ∧ (parseMethodDescriptor yX1_uses.desc).map (fun d => d.parameters.length) = some 1 := by decide +kernel
theorem gLX0_fitting : GoodIn lw_all (wsV R_law 54 RX0 yX0_fitting (ws_ yX0_fitting cX0_fitting 5 (some .int))) := lw_V q174 q175 q176 q21 q177
theorem aLX0_fitting : yX0_fitting.cls = RX0 ∧ yX0_fitting.cls ≠ "java/lang/invoke/MethodHandle" ∧ yX0_fitting.cls ≠ "java/lang/invoke/VarHandle" ∧ (parseMethodDescriptor yX0_fitting.desc).map (fun d => d.parameters.length) = some 2 := by decide +kernel
theorem gLX1_fitting : GoodIn lw_all (wsV R_law 57 RX1 yX1_fitting (ws_ yX1_fitting cX1_fitting 9 (some .int))) := lw_V q289 q290 q291 q22 q292
theorem aLX1_fitting : yX1_fitting.cls = RX1 ∧ yX1_fitting.cls ≠ "java/lang/invoke/MethodHandle" ∧ yX1_fitting.cls ≠ "java/lang/invoke/VarHandle" ∧ (parseMethodDescriptor yX1_fitting.desc).map (fun d => d.parameters.length) = some 2 := by decide +kernel
theorem gLX0_partial : GoodIn lw_all (wsV R_law 58 RX0 yX0_partial (ws_ yX0_partial cX0_partial 3 (some .int))) := lw_V q185 q186 q187 q21 q188
theorem aLX0_partial : yX0_partial.cls = RX0 ∧ yX0_partial.cls ≠ "java/lang/invoke/MethodHandle" ∧ yX0_partial.cls ≠ "java/lang/invoke/VarHandle" ∧ (parseMethodDescriptor yX0_partial.desc).map (fun d => d.parameters.length) = some 2 := by decide +kernel
theorem gLX1_partial : GoodIn lw_all (wsV R_law 61 RX1 yX1_partial (ws_ yX1_partial cX1_partial 3 (some .int))) := lw_V q293 q294 q295 q22 q296
theorem aLX1_partial : yX1_partial.cls = RX1 ∧ yX1_partial.cls ≠ "java/lang/invoke/MethodHandle" ∧ yX1_partial.cls ≠ "java/lang/invoke/VarHandle" ∧ (parseMethodDescriptor yX1_partial.desc).map (fun d => d.parameters.length) = some 2 := by decide +kernel
theorem gLX0_effect : GoodIn lw_all (wsV R_law 62 RX0 yX0_effect (ws_ yX0_effect cX0_effect 8 (some .int))) := lw_V q189 q190 q191 q21 q192
theorem aLX0_effect : yX0_effect.cls = RX0 ∧ yX0_effect.cls ≠ "java/lang/invoke/MethodHandle" ∧ yX0_effect.cls ≠ "java/lang/invoke/VarHandle" ∧ (parseMethodDescriptor yX0_effect.desc).map (fun d => d.parameters.length) = some 4 := by decide +kernel
theorem gLX1_effect : GoodIn lw_all (wsV R_law 66 RX1 yX1_effect (ws_ yX1_effect cX1_effect 8 (some .int))) := lw_V q297 q298 q299 q22 q300
theorem aLX1_effect : yX1_effect.cls = RX1 ∧ yX1_effect.cls ≠ "java/lang/invoke/MethodHandle" ∧ yX1_effect.cls ≠ "java/lang/invoke/VarHandle" ∧ (parseMethodDescriptor yX1_effect.desc).map (fun d => d.parameters.length) = some 4 := by decide +kernel
/-- the law's loop, from its head -/
theorem law_loop {X : zX} {b L : Nat} {xs : Nat → Int32} {q q' : Nat → Nat} (hc : zC X cL_law 4 R_law room_1) (hL : L ≤ 320) (hX : va_X b L xs (zx_s X) (zx_s X).heap) (hbl : b < (zx_s X).heap.size) (hbA : ¬ zx_A X b) (fin : ∀ (Z : ES × ES) (lv : List (Nat × Value)), zG X (lawW (zx_K X) q q') 4 Z lv 449 [.int (nI 1)]) :
    ∀ (n i : Nat) (S T : ES), L < i + n → i ≤ 330 → eI S → mOK T → rel S T → zG X (lawW (zx_K X) q q') 4 (S, T) [(0, .ref b), (1, .ref (q 0)), (2, .ref (q' 0)), (3, .int (nI i))] 18 [] := by
  intro n
  induction n with
  | zero =>
    intro i S T h1 h2 hI hm hR
    refine z_iload_n hc dL_law_18 3 rfl rfl ?_
    refine z_aload_n hc dL_law_19 0 rfl rfl ?_
    refine z_slen hc hX hbl hbA dL_law_20 ?_
    refine z_iconst hc ((nI 5)) dL_law_21 (by decide) ?_
    refine z_isubR hc (nI L - nI 5) dL_law_22 rfl ?_
    refine z_icmp_gt hc 448 dL_law_23 (by decide) (toInt_nI (by omega)) (pk_sub_toInt (by omega) (by omega)) (fun h3 => ?_) (fun h3 => ?_)
    · refine z_iconst hc ((nI 1)) dL_law_448 (by decide) ?_
      exact fin _ _
    · exfalso
      omega
  | succ n ih =>
    intro i S T h1 h2 hI hm hR
    refine z_iload_n hc dL_law_18 3 rfl rfl ?_
    refine z_aload_n hc dL_law_19 0 rfl rfl ?_
    refine z_slen hc hX hbl hbA dL_law_20 ?_
    refine z_iconst hc ((nI 5)) dL_law_21 (by decide) ?_
    refine z_isubR hc (nI L - nI 5) dL_law_22 rfl ?_
    refine z_icmp_gt hc 448 dL_law_23 (by decide) (toInt_nI (by omega)) (pk_sub_toInt (by omega) (by omega)) (fun h3 => ?_) (fun h3 => ?_)
    · refine z_iconst hc ((nI 1)) dL_law_448 (by decide) ?_
      exact fin _ _
    · have h4 : i + 5 ≤ L := by omega
      have J : ∀ (S1 T1 : ES), eI S1 → mOK T1 → rel S1 T1 → zG X (lawW (zx_K X) q q') 4 (S1, T1) [(0, .ref b), (1, .ref (q 0)), (2, .ref (q' 0)), (3, .int (nI i))] 442 [] := by
        intro S1 T1 hI1 hm1 hR1
        refine z_iincG (v := nI (i + 5)) (lv' := [(0, .ref b), (1, .ref (q 0)), (2, .ref (q' 0)), (3, .int (nI (i + 5)))]) hc dL_law_442 3 rfl (nI_add i 5) (by decide) rfl ?_
        refine z_goto hc 18 dL_law_445 (by decide) ?_
        exact ih (i + 5) S1 T1 (by omega) (by omega) hI1 hm1 hR1
      refine z_aload_n hc dL_law_26 0 rfl rfl ?_
      refine z_iload_n hc dL_law_27 3 rfl rfl ?_
      refine z_sld hc hX hbl hbA (show i < L by omega) (by omega) dL_law_28 ?_
      refine z_bipush hc ((nI 15)) dL_law_29 (by decide) ?_
      obtain ⟨j, hj, ej⟩ := pk_andE (xs i) (m := nI 15) 4 (by decide)
      refine z_iandR hc (nI j) dL_law_31 ej ?_
      have hj : j < 16 := hj
      rcases (show j = 0 ∨ j = 1 ∨ j = 2 ∨ j = 3 ∨ j = 4 ∨ j = 5 ∨ j = 6 ∨ j = 7 ∨ j = 8 ∨ j = 9 ∨ j = 10 ∨ j = 11 ∨ 12 ≤ j by omega) with rfl | rfl | rfl | rfl | rfl | rfl | rfl | rfl | rfl | rfl | rfl | rfl | hbig
      · refine z_tabIn hc 96 dL_law_32 (by decide) (by decide) rfl (by decide) ?_
        refine z_aload_n hc dL_law_96 1 rfl rfl ?_
        refine z_aload_n hc dL_law_97 0 rfl rfl ?_
        refine z_iload_n hc dL_law_98 3 rfl rfl ?_
        refine z_iconst hc ((nI 1)) dL_law_99 (by decide) ?_
        refine z_iadd (a := i) (b := 1) hc dL_law_100 ?_
        refine z_sld hc hX hbl hbA (show i + 1 < L by omega) (by omega) dL_law_101 ?_
        refine z_aload_n hc dL_law_102 0 rfl rfl ?_
        refine z_iload_n hc dL_law_103 3 rfl rfl ?_
        refine z_iconst hc ((nI 2)) dL_law_104 (by decide) ?_
        refine z_iadd (a := i) (b := 2) hc dL_law_105 ?_
        refine z_sld hc hX hbl hbA (show i + 2 < L by omega) (by omega) dL_law_106 ?_
        refine z_callE (As := [.int (xs (i + 1)), .int (xs (i + 2))]) (rest := []) hc (e_condition _ _ q S (xs (i + 1)) (xs (i + 2)) hI.1) gLX0_condition aLX0_condition (by decide) rfl rfl (Nat.le_of_ble_eq_true rfl) dL_law_107 (fun r1 S1 g1 => ?_)
        refine z_aload_n hc dL_law_110 2 rfl rfl ?_
        refine z_aload_n hc dL_law_111 0 rfl rfl ?_
        refine z_iload_n hc dL_law_112 3 rfl rfl ?_
        refine z_iconst hc ((nI 1)) dL_law_113 (by decide) ?_
        refine z_iadd (a := i) (b := 1) hc dL_law_114 ?_
        refine z_sld hc hX hbl hbA (show i + 1 < L by omega) (by omega) dL_law_115 ?_
        refine z_aload_n hc dL_law_116 0 rfl rfl ?_
        refine z_iload_n hc dL_law_117 3 rfl rfl ?_
        refine z_iconst hc ((nI 2)) dL_law_118 (by decide) ?_
        refine z_iadd (a := i) (b := 2) hc dL_law_119 ?_
        refine z_sld hc hX hbl hbA (show i + 2 < L by omega) (by omega) dL_law_120 ?_
        refine z_callM (As := [.int (xs (i + 1)), .int (xs (i + 2))]) (rest := [.int r1]) hc (m_condition _ _ q' T (xs (i + 1)) (xs (i + 2)) hm) gLX1_condition aLX1_condition (by decide) rfl rfl (Nat.le_of_ble_eq_true rfl) dL_law_121 (fun r2 T1 g2 => ?_)
        obtain ⟨e1, I1, R1⟩ := cd_eq hI hR g1.1 g2.1
        refine z_icmp_eq hc 442 dL_law_124 (by decide) rfl rfl (fun h5 => ?_) (fun h5 => ?_)
        · exact J S1 T1 I1 g2.2 R1
        · exact absurd (congrArg Int32.toInt e1) h5
      · refine z_tabIn hc 129 dL_law_32 (by decide) (by decide) rfl (by decide) ?_
        refine z_aload_n hc dL_law_129 1 rfl rfl ?_
        refine z_aload_n hc dL_law_130 0 rfl rfl ?_
        refine z_iload_n hc dL_law_131 3 rfl rfl ?_
        refine z_iconst hc ((nI 1)) dL_law_132 (by decide) ?_
        refine z_iadd (a := i) (b := 1) hc dL_law_133 ?_
        refine z_sld hc hX hbl hbA (show i + 1 < L by omega) (by omega) dL_law_134 ?_
        refine z_callE (As := [.int (xs (i + 1))]) (rest := []) hc (e_drop _ _ q S (xs (i + 1)) hI.1) gLX0_drop aLX0_drop (by decide) rfl rfl (Nat.le_of_ble_eq_true rfl) dL_law_135 (fun r1 S1 g1 => ?_)
        refine z_aload_n hc dL_law_138 2 rfl rfl ?_
        refine z_aload_n hc dL_law_139 0 rfl rfl ?_
        refine z_iload_n hc dL_law_140 3 rfl rfl ?_
        refine z_iconst hc ((nI 1)) dL_law_141 (by decide) ?_
        refine z_iadd (a := i) (b := 1) hc dL_law_142 ?_
        refine z_sld hc hX hbl hbA (show i + 1 < L by omega) (by omega) dL_law_143 ?_
        refine z_callM (As := [.int (xs (i + 1))]) (rest := [.int r1]) hc (m_drop _ _ q' T (xs (i + 1)) hm) gLX1_drop aLX1_drop (by decide) rfl rfl (Nat.le_of_ble_eq_true rfl) dL_law_144 (fun r2 T1 g2 => ?_)
        obtain ⟨e1, I1, R1⟩ := dp_eq hI hR g1.1 g2.1
        refine z_icmp_eq hc 442 dL_law_147 (by decide) rfl rfl (fun h5 => ?_) (fun h5 => ?_)
        · exact J S1 T1 I1 g2.2 R1
        · exact absurd (congrArg Int32.toInt e1) h5
      · refine z_tabIn hc 152 dL_law_32 (by decide) (by decide) rfl (by decide) ?_
        refine z_aload_n hc dL_law_152 1 rfl rfl ?_
        refine z_aload_n hc dL_law_153 0 rfl rfl ?_
        refine z_iload_n hc dL_law_154 3 rfl rfl ?_
        refine z_iconst hc ((nI 1)) dL_law_155 (by decide) ?_
        refine z_iadd (a := i) (b := 1) hc dL_law_156 ?_
        refine z_sld hc hX hbl hbA (show i + 1 < L by omega) (by omega) dL_law_157 ?_
        refine z_aload_n hc dL_law_158 0 rfl rfl ?_
        refine z_iload_n hc dL_law_159 3 rfl rfl ?_
        refine z_iconst hc ((nI 2)) dL_law_160 (by decide) ?_
        refine z_iadd (a := i) (b := 2) hc dL_law_161 ?_
        refine z_sld hc hX hbl hbA (show i + 2 < L by omega) (by omega) dL_law_162 ?_
        refine z_aload_n hc dL_law_163 0 rfl rfl ?_
        refine z_iload_n hc dL_law_164 3 rfl rfl ?_
        refine z_iconst hc ((nI 3)) dL_law_165 (by decide) ?_
        refine z_iadd (a := i) (b := 3) hc dL_law_166 ?_
        refine z_sld hc hX hbl hbA (show i + 3 < L by omega) (by omega) dL_law_167 ?_
        refine z_callE (As := [.int (xs (i + 1)), .int (xs (i + 2)), .int (xs (i + 3))]) (rest := []) hc (e_add _ _ q S (xs (i + 1)) (xs (i + 2)) (xs (i + 3)) hI.1) gLX0_add aLX0_add (by decide) rfl rfl (Nat.le_of_ble_eq_true rfl) dL_law_168 (fun r1 S1 g1 => ?_)
        refine z_aload_n hc dL_law_171 2 rfl rfl ?_
        refine z_aload_n hc dL_law_172 0 rfl rfl ?_
        refine z_iload_n hc dL_law_173 3 rfl rfl ?_
        refine z_iconst hc ((nI 1)) dL_law_174 (by decide) ?_
        refine z_iadd (a := i) (b := 1) hc dL_law_175 ?_
        refine z_sld hc hX hbl hbA (show i + 1 < L by omega) (by omega) dL_law_176 ?_
        refine z_aload_n hc dL_law_177 0 rfl rfl ?_
        refine z_iload_n hc dL_law_178 3 rfl rfl ?_
        refine z_iconst hc ((nI 2)) dL_law_179 (by decide) ?_
        refine z_iadd (a := i) (b := 2) hc dL_law_180 ?_
        refine z_sld hc hX hbl hbA (show i + 2 < L by omega) (by omega) dL_law_181 ?_
        refine z_aload_n hc dL_law_182 0 rfl rfl ?_
        refine z_iload_n hc dL_law_183 3 rfl rfl ?_
        refine z_iconst hc ((nI 3)) dL_law_184 (by decide) ?_
        refine z_iadd (a := i) (b := 3) hc dL_law_185 ?_
        refine z_sld hc hX hbl hbA (show i + 3 < L by omega) (by omega) dL_law_186 ?_
        refine z_callM (As := [.int (xs (i + 1)), .int (xs (i + 2)), .int (xs (i + 3))]) (rest := [.int r1]) hc (m_add _ _ q' T (xs (i + 1)) (xs (i + 2)) (xs (i + 3)) hm) gLX1_add aLX1_add (by decide) rfl rfl (Nat.le_of_ble_eq_true rfl) dL_law_187 (fun r2 T1 g2 => ?_)
        obtain ⟨e1, I1, R1⟩ := ad_eq hI hR g1.1 g2.1
        refine z_icmp_eq hc 442 dL_law_190 (by decide) rfl rfl (fun h5 => ?_) (fun h5 => ?_)
        · exact J S1 T1 I1 g2.2 R1
        · exact absurd (congrArg Int32.toInt e1) h5
      · refine z_tabIn hc 195 dL_law_32 (by decide) (by decide) rfl (by decide) ?_
        refine z_aload_n hc dL_law_195 1 rfl rfl ?_
        refine z_aload_n hc dL_law_196 0 rfl rfl ?_
        refine z_iload_n hc dL_law_197 3 rfl rfl ?_
        refine z_iconst hc ((nI 1)) dL_law_198 (by decide) ?_
        refine z_iadd (a := i) (b := 1) hc dL_law_199 ?_
        refine z_sld hc hX hbl hbA (show i + 1 < L by omega) (by omega) dL_law_200 ?_
        refine z_callE (As := [.int (xs (i + 1))]) (rest := []) hc (e_remove _ _ q S (xs (i + 1)) hI.1) gLX0_remove aLX0_remove (by decide) rfl rfl (Nat.le_of_ble_eq_true rfl) dL_law_201 (fun r1 S1 g1 => ?_)
        refine z_aload_n hc dL_law_204 2 rfl rfl ?_
        refine z_aload_n hc dL_law_205 0 rfl rfl ?_
        refine z_iload_n hc dL_law_206 3 rfl rfl ?_
        refine z_iconst hc ((nI 1)) dL_law_207 (by decide) ?_
        refine z_iadd (a := i) (b := 1) hc dL_law_208 ?_
        refine z_sld hc hX hbl hbA (show i + 1 < L by omega) (by omega) dL_law_209 ?_
        refine z_callM (As := [.int (xs (i + 1))]) (rest := [.int r1]) hc (m_remove _ _ q' T (xs (i + 1)) hm) gLX1_remove aLX1_remove (by decide) rfl rfl (Nat.le_of_ble_eq_true rfl) dL_law_210 (fun r2 T1 g2 => ?_)
        obtain ⟨e1, I1, R1⟩ := rm_eq hI hR g1.1 g2.1
        refine z_icmp_eq hc 442 dL_law_213 (by decide) rfl rfl (fun h5 => ?_) (fun h5 => ?_)
        · exact J S1 T1 I1 g2.2 R1
        · exact absurd (congrArg Int32.toInt e1) h5
      · refine z_tabIn hc 218 dL_law_32 (by decide) (by decide) rfl (by decide) ?_
        refine z_aload_n hc dL_law_218 1 rfl rfl ?_
        refine z_callE (As := []) (rest := []) hc (e_facts _ _ q S) gLX0_facts aLX0_facts (by decide) rfl rfl (Nat.le_of_ble_eq_true rfl) dL_law_219 (fun r1 S1 g1 => ?_)
        rw [g1.2]
        refine z_aload_n hc dL_law_222 2 rfl rfl ?_
        refine z_callM (As := []) (rest := [.int r1]) hc (m_facts _ _ q' T hm) gLX1_facts aLX1_facts (by decide) rfl rfl (Nat.le_of_ble_eq_true rfl) dL_law_223 (fun r2 T1 g2 => ?_)
        have e1 : r1 = r2 := by rw [g1.1, g2.1, fc_eq hI.1 hR]
        refine z_icmp_eq hc 442 dL_law_226 (by decide) rfl rfl (fun h5 => ?_) (fun h5 => ?_)
        · rw [g2.2]; exact J S T hI hm hR
        · exact absurd (congrArg Int32.toInt e1) h5
      · refine z_tabIn hc 231 dL_law_32 (by decide) (by decide) rfl (by decide) ?_
        refine z_aload_n hc dL_law_231 1 rfl rfl ?_
        refine z_aload_n hc dL_law_232 0 rfl rfl ?_
        refine z_iload_n hc dL_law_233 3 rfl rfl ?_
        refine z_iconst hc ((nI 1)) dL_law_234 (by decide) ?_
        refine z_iadd (a := i) (b := 1) hc dL_law_235 ?_
        refine z_sld hc hX hbl hbA (show i + 1 < L by omega) (by omega) dL_law_236 ?_
        refine z_callE (As := [.int (xs (i + 1))]) (rest := []) hc (e_matches _ _ q S (xs (i + 1)) hI.1) gLX0_matches aLX0_matches (by decide) rfl rfl (Nat.le_of_ble_eq_true rfl) dL_law_237 (fun r1 S1 g1 => ?_)
        rw [g1.2]
        refine z_aload_n hc dL_law_240 2 rfl rfl ?_
        refine z_aload_n hc dL_law_241 0 rfl rfl ?_
        refine z_iload_n hc dL_law_242 3 rfl rfl ?_
        refine z_iconst hc ((nI 1)) dL_law_243 (by decide) ?_
        refine z_iadd (a := i) (b := 1) hc dL_law_244 ?_
        refine z_sld hc hX hbl hbA (show i + 1 < L by omega) (by omega) dL_law_245 ?_
        refine z_callM (As := [.int (xs (i + 1))]) (rest := [.int r1]) hc (m_matches _ _ q' T (xs (i + 1)) hm) gLX1_matches aLX1_matches (by decide) rfl rfl (Nat.le_of_ble_eq_true rfl) dL_law_246 (fun r2 T1 g2 => ?_)
        have e1 : r1 = r2 := by rw [g1.1, g2.1, mt_eq hI hR]
        refine z_icmp_eq hc 442 dL_law_249 (by decide) rfl rfl (fun h5 => ?_) (fun h5 => ?_)
        · exact J S T1 hI g2.2.2 (rel_m g2.2.1 hR)
        · exact absurd (congrArg Int32.toInt e1) h5
      · refine z_tabIn hc 254 dL_law_32 (by decide) (by decide) rfl (by decide) ?_
        refine z_aload_n hc dL_law_254 1 rfl rfl ?_
        refine z_aload_n hc dL_law_255 0 rfl rfl ?_
        refine z_iload_n hc dL_law_256 3 rfl rfl ?_
        refine z_iconst hc ((nI 1)) dL_law_257 (by decide) ?_
        refine z_iadd (a := i) (b := 1) hc dL_law_258 ?_
        refine z_sld hc hX hbl hbA (show i + 1 < L by omega) (by omega) dL_law_259 ?_
        refine z_aload_n hc dL_law_260 0 rfl rfl ?_
        refine z_iload_n hc dL_law_261 3 rfl rfl ?_
        refine z_iconst hc ((nI 2)) dL_law_262 (by decide) ?_
        refine z_iadd (a := i) (b := 2) hc dL_law_263 ?_
        refine z_sld hc hX hbl hbA (show i + 2 < L by omega) (by omega) dL_law_264 ?_
        refine z_callE (As := [.int (xs (i + 1)), .int (xs (i + 2))]) (rest := []) hc (e_match _ _ q S (xs (i + 1)) (xs (i + 2)) hI.1) gLX0_match aLX0_match (by decide) rfl rfl (Nat.le_of_ble_eq_true rfl) dL_law_265 (fun r1 S1 g1 => ?_)
        rw [g1.2]
        refine z_aload_n hc dL_law_268 2 rfl rfl ?_
        refine z_aload_n hc dL_law_269 0 rfl rfl ?_
        refine z_iload_n hc dL_law_270 3 rfl rfl ?_
        refine z_iconst hc ((nI 1)) dL_law_271 (by decide) ?_
        refine z_iadd (a := i) (b := 1) hc dL_law_272 ?_
        refine z_sld hc hX hbl hbA (show i + 1 < L by omega) (by omega) dL_law_273 ?_
        refine z_aload_n hc dL_law_274 0 rfl rfl ?_
        refine z_iload_n hc dL_law_275 3 rfl rfl ?_
        refine z_iconst hc ((nI 2)) dL_law_276 (by decide) ?_
        refine z_iadd (a := i) (b := 2) hc dL_law_277 ?_
        refine z_sld hc hX hbl hbA (show i + 2 < L by omega) (by omega) dL_law_278 ?_
        refine z_callM (As := [.int (xs (i + 1)), .int (xs (i + 2))]) (rest := [.int r1]) hc (m_match _ _ q' T (xs (i + 1)) (xs (i + 2)) hm) gLX1_match aLX1_match (by decide) rfl rfl (Nat.le_of_ble_eq_true rfl) dL_law_279 (fun r2 T1 g2 => ?_)
        have e1 : r1 = r2 := mch_eq hI hR g1.1 g2.1
        refine z_icmp_eq hc 442 dL_law_282 (by decide) rfl rfl (fun h5 => ?_) (fun h5 => ?_)
        · exact J S T1 hI g2.2.2 (rel_m g2.2.1 hR)
        · exact absurd (congrArg Int32.toInt e1) h5
      · refine z_tabIn hc 287 dL_law_32 (by decide) (by decide) rfl (by decide) ?_
        refine z_aload_n hc dL_law_287 1 rfl rfl ?_
        refine z_callE (As := []) (rest := []) hc (e_ready _ _ q S hI.1) gLX0_ready aLX0_ready (by decide) rfl rfl (Nat.le_of_ble_eq_true rfl) dL_law_288 (fun r1 S1 g1 => ?_)
        rw [g1.2]
        refine z_aload_n hc dL_law_291 2 rfl rfl ?_
        refine z_callM (As := []) (rest := [.int r1]) hc (m_ready _ _ q' T hm) gLX1_ready aLX1_ready (by decide) rfl rfl (Nat.le_of_ble_eq_true rfl) dL_law_292 (fun r2 T1 g2 => ?_)
        have e1 : r1 = r2 := by rw [g1.1, g2.1, rd_eq hI hR]
        refine z_icmp_eq hc 442 dL_law_295 (by decide) rfl rfl (fun h5 => ?_) (fun h5 => ?_)
        · exact J S T1 hI g2.2.2 (rel_m g2.2.1 hR)
        · exact absurd (congrArg Int32.toInt e1) h5
      · refine z_tabIn hc 300 dL_law_32 (by decide) (by decide) rfl (by decide) ?_
        refine z_aload_n hc dL_law_300 1 rfl rfl ?_
        refine z_aload_n hc dL_law_301 0 rfl rfl ?_
        refine z_iload_n hc dL_law_302 3 rfl rfl ?_
        refine z_iconst hc ((nI 1)) dL_law_303 (by decide) ?_
        refine z_iadd (a := i) (b := 1) hc dL_law_304 ?_
        refine z_sld hc hX hbl hbA (show i + 1 < L by omega) (by omega) dL_law_305 ?_
        refine z_callE (As := [.int (xs (i + 1))]) (rest := []) hc (e_uses _ _ q S (xs (i + 1)) hI.1) gLX0_uses aLX0_uses (by decide) rfl rfl (Nat.le_of_ble_eq_true rfl) dL_law_306 (fun r1 S1 g1 => ?_)
        rw [g1.2]
        refine z_aload_n hc dL_law_309 2 rfl rfl ?_
        refine z_aload_n hc dL_law_310 0 rfl rfl ?_
        refine z_iload_n hc dL_law_311 3 rfl rfl ?_
        refine z_iconst hc ((nI 1)) dL_law_312 (by decide) ?_
        refine z_iadd (a := i) (b := 1) hc dL_law_313 ?_
        refine z_sld hc hX hbl hbA (show i + 1 < L by omega) (by omega) dL_law_314 ?_
        refine z_callM (As := [.int (xs (i + 1))]) (rest := [.int r1]) hc (m_uses _ _ q' T (xs (i + 1)) hm) gLX1_uses aLX1_uses (by decide) rfl rfl (Nat.le_of_ble_eq_true rfl) dL_law_315 (fun r2 T1 g2 => ?_)
        have e1 : r1 = r2 := by rw [g1.1, g2.1, us_eq hI hR]
        refine z_icmp_eq hc 442 dL_law_318 (by decide) rfl rfl (fun h5 => ?_) (fun h5 => ?_)
        · exact J S T1 hI g2.2.2 (rel_m g2.2.1 hR)
        · exact absurd (congrArg Int32.toInt e1) h5
      · refine z_tabIn hc 323 dL_law_32 (by decide) (by decide) rfl (by decide) ?_
        refine z_aload_n hc dL_law_323 1 rfl rfl ?_
        refine z_aload_n hc dL_law_324 0 rfl rfl ?_
        refine z_iload_n hc dL_law_325 3 rfl rfl ?_
        refine z_iconst hc ((nI 1)) dL_law_326 (by decide) ?_
        refine z_iadd (a := i) (b := 1) hc dL_law_327 ?_
        refine z_sld hc hX hbl hbA (show i + 1 < L by omega) (by omega) dL_law_328 ?_
        refine z_aload_n hc dL_law_329 0 rfl rfl ?_
        refine z_iload_n hc dL_law_330 3 rfl rfl ?_
        refine z_iconst hc ((nI 2)) dL_law_331 (by decide) ?_
        refine z_iadd (a := i) (b := 2) hc dL_law_332 ?_
        refine z_sld hc hX hbl hbA (show i + 2 < L by omega) (by omega) dL_law_333 ?_
        refine z_callE (As := [.int (xs (i + 1)), .int (xs (i + 2))]) (rest := []) hc (e_fitting _ _ q S (xs (i + 1)) (xs (i + 2)) hI.1) gLX0_fitting aLX0_fitting (by decide) rfl rfl (Nat.le_of_ble_eq_true rfl) dL_law_334 (fun r1 S1 g1 => ?_)
        rw [g1.2]
        refine z_aload_n hc dL_law_337 2 rfl rfl ?_
        refine z_aload_n hc dL_law_338 0 rfl rfl ?_
        refine z_iload_n hc dL_law_339 3 rfl rfl ?_
        refine z_iconst hc ((nI 1)) dL_law_340 (by decide) ?_
        refine z_iadd (a := i) (b := 1) hc dL_law_341 ?_
        refine z_sld hc hX hbl hbA (show i + 1 < L by omega) (by omega) dL_law_342 ?_
        refine z_aload_n hc dL_law_343 0 rfl rfl ?_
        refine z_iload_n hc dL_law_344 3 rfl rfl ?_
        refine z_iconst hc ((nI 2)) dL_law_345 (by decide) ?_
        refine z_iadd (a := i) (b := 2) hc dL_law_346 ?_
        refine z_sld hc hX hbl hbA (show i + 2 < L by omega) (by omega) dL_law_347 ?_
        refine z_callM (As := [.int (xs (i + 1)), .int (xs (i + 2))]) (rest := [.int r1]) hc (m_fitting _ _ q' T (xs (i + 1)) (xs (i + 2)) hm) gLX1_fitting aLX1_fitting (by decide) rfl rfl (Nat.le_of_ble_eq_true rfl) dL_law_348 (fun r2 T1 g2 => ?_)
        have e1 : r1 = r2 := by rw [g1.1, g2.1, ft_eq hR]
        refine z_icmp_eq hc 442 dL_law_351 (by decide) rfl rfl (fun h5 => ?_) (fun h5 => ?_)
        · rw [g2.2]; exact J S T hI hm hR
        · exact absurd (congrArg Int32.toInt e1) h5
      · refine z_tabIn hc 356 dL_law_32 (by decide) (by decide) rfl (by decide) ?_
        refine z_aload_n hc dL_law_356 1 rfl rfl ?_
        refine z_aload_n hc dL_law_357 0 rfl rfl ?_
        refine z_iload_n hc dL_law_358 3 rfl rfl ?_
        refine z_iconst hc ((nI 1)) dL_law_359 (by decide) ?_
        refine z_iadd (a := i) (b := 1) hc dL_law_360 ?_
        refine z_sld hc hX hbl hbA (show i + 1 < L by omega) (by omega) dL_law_361 ?_
        refine z_aload_n hc dL_law_362 0 rfl rfl ?_
        refine z_iload_n hc dL_law_363 3 rfl rfl ?_
        refine z_iconst hc ((nI 2)) dL_law_364 (by decide) ?_
        refine z_iadd (a := i) (b := 2) hc dL_law_365 ?_
        refine z_sld hc hX hbl hbA (show i + 2 < L by omega) (by omega) dL_law_366 ?_
        refine z_callE (As := [.int (xs (i + 1)), .int (xs (i + 2))]) (rest := []) hc (e_partial _ _ q S (xs (i + 1)) (xs (i + 2)) hI.1) gLX0_partial aLX0_partial (by decide) rfl rfl (Nat.le_of_ble_eq_true rfl) dL_law_367 (fun r1 S1 g1 => ?_)
        rw [g1.2]
        refine z_aload_n hc dL_law_370 2 rfl rfl ?_
        refine z_aload_n hc dL_law_371 0 rfl rfl ?_
        refine z_iload_n hc dL_law_372 3 rfl rfl ?_
        refine z_iconst hc ((nI 1)) dL_law_373 (by decide) ?_
        refine z_iadd (a := i) (b := 1) hc dL_law_374 ?_
        refine z_sld hc hX hbl hbA (show i + 1 < L by omega) (by omega) dL_law_375 ?_
        refine z_aload_n hc dL_law_376 0 rfl rfl ?_
        refine z_iload_n hc dL_law_377 3 rfl rfl ?_
        refine z_iconst hc ((nI 2)) dL_law_378 (by decide) ?_
        refine z_iadd (a := i) (b := 2) hc dL_law_379 ?_
        refine z_sld hc hX hbl hbA (show i + 2 < L by omega) (by omega) dL_law_380 ?_
        refine z_callM (As := [.int (xs (i + 1)), .int (xs (i + 2))]) (rest := [.int r1]) hc (m_partial _ _ q' T (xs (i + 1)) (xs (i + 2)) hm) gLX1_partial aLX1_partial (by decide) rfl rfl (Nat.le_of_ble_eq_true rfl) dL_law_381 (fun r2 T1 g2 => ?_)
        have e1 : r1 = r2 := by rw [g1.1, g2.1, pa_eq hI hR]
        refine z_icmp_eq hc 442 dL_law_384 (by decide) rfl rfl (fun h5 => ?_) (fun h5 => ?_)
        · exact J S T1 hI g2.2.2 (rel_m g2.2.1 hR)
        · exact absurd (congrArg Int32.toInt e1) h5
      · refine z_tabIn hc 389 dL_law_32 (by decide) (by decide) rfl (by decide) ?_
        refine z_aload_n hc dL_law_389 1 rfl rfl ?_
        refine z_aload_n hc dL_law_390 0 rfl rfl ?_
        refine z_iload_n hc dL_law_391 3 rfl rfl ?_
        refine z_iconst hc ((nI 1)) dL_law_392 (by decide) ?_
        refine z_iadd (a := i) (b := 1) hc dL_law_393 ?_
        refine z_sld hc hX hbl hbA (show i + 1 < L by omega) (by omega) dL_law_394 ?_
        refine z_aload_n hc dL_law_395 0 rfl rfl ?_
        refine z_iload_n hc dL_law_396 3 rfl rfl ?_
        refine z_iconst hc ((nI 2)) dL_law_397 (by decide) ?_
        refine z_iadd (a := i) (b := 2) hc dL_law_398 ?_
        refine z_sld hc hX hbl hbA (show i + 2 < L by omega) (by omega) dL_law_399 ?_
        refine z_aload_n hc dL_law_400 0 rfl rfl ?_
        refine z_iload_n hc dL_law_401 3 rfl rfl ?_
        refine z_iconst hc ((nI 3)) dL_law_402 (by decide) ?_
        refine z_iadd (a := i) (b := 3) hc dL_law_403 ?_
        refine z_sld hc hX hbl hbA (show i + 3 < L by omega) (by omega) dL_law_404 ?_
        refine z_aload_n hc dL_law_405 0 rfl rfl ?_
        refine z_iload_n hc dL_law_406 3 rfl rfl ?_
        refine z_iconst hc ((nI 4)) dL_law_407 (by decide) ?_
        refine z_iadd (a := i) (b := 4) hc dL_law_408 ?_
        refine z_sld hc hX hbl hbA (show i + 4 < L by omega) (by omega) dL_law_409 ?_
        refine z_callE (As := [.int (xs (i + 1)), .int (xs (i + 2)), .int (xs (i + 3)), .int (xs (i + 4))]) (rest := []) hc (e_effect _ _ q S (xs (i + 1)) (xs (i + 2)) (xs (i + 3)) (xs (i + 4)) hI.1) gLX0_effect aLX0_effect (by decide) rfl rfl (Nat.le_of_ble_eq_true rfl) dL_law_410 (fun r1 S1 g1 => ?_)
        refine z_aload_n hc dL_law_413 2 rfl rfl ?_
        refine z_aload_n hc dL_law_414 0 rfl rfl ?_
        refine z_iload_n hc dL_law_415 3 rfl rfl ?_
        refine z_iconst hc ((nI 1)) dL_law_416 (by decide) ?_
        refine z_iadd (a := i) (b := 1) hc dL_law_417 ?_
        refine z_sld hc hX hbl hbA (show i + 1 < L by omega) (by omega) dL_law_418 ?_
        refine z_aload_n hc dL_law_419 0 rfl rfl ?_
        refine z_iload_n hc dL_law_420 3 rfl rfl ?_
        refine z_iconst hc ((nI 2)) dL_law_421 (by decide) ?_
        refine z_iadd (a := i) (b := 2) hc dL_law_422 ?_
        refine z_sld hc hX hbl hbA (show i + 2 < L by omega) (by omega) dL_law_423 ?_
        refine z_aload_n hc dL_law_424 0 rfl rfl ?_
        refine z_iload_n hc dL_law_425 3 rfl rfl ?_
        refine z_iconst hc ((nI 3)) dL_law_426 (by decide) ?_
        refine z_iadd (a := i) (b := 3) hc dL_law_427 ?_
        refine z_sld hc hX hbl hbA (show i + 3 < L by omega) (by omega) dL_law_428 ?_
        refine z_aload_n hc dL_law_429 0 rfl rfl ?_
        refine z_iload_n hc dL_law_430 3 rfl rfl ?_
        refine z_iconst hc ((nI 4)) dL_law_431 (by decide) ?_
        refine z_iadd (a := i) (b := 4) hc dL_law_432 ?_
        refine z_sld hc hX hbl hbA (show i + 4 < L by omega) (by omega) dL_law_433 ?_
        refine z_callM (As := [.int (xs (i + 1)), .int (xs (i + 2)), .int (xs (i + 3)), .int (xs (i + 4))]) (rest := [.int r1]) hc (m_effect _ _ q' T (xs (i + 1)) (xs (i + 2)) (xs (i + 3)) (xs (i + 4)) hm) gLX1_effect aLX1_effect (by decide) rfl rfl (Nat.le_of_ble_eq_true rfl) dL_law_434 (fun r2 T1 g2 => ?_)
        obtain ⟨e1, I1, R1⟩ := ef_eq hI hR g1.1 g2.1
        refine z_icmp_eq hc 442 dL_law_437 (by decide) rfl rfl (fun h5 => ?_) (fun h5 => ?_)
        · exact J S1 T1 I1 g2.2 R1
        · exact absurd (congrArg Int32.toInt e1) h5
      · refine z_tabOut hc 442 dL_law_32 (Or.inr (by rw [toInt_nI (by omega)]; omega)) (by decide) ?_
        exact J S T hI hm hR
end
section
set_option maxRecDepth 100000
theorem arrK_of {args : Array Value} {s : State} {ty : FieldType} (h4 : ty = .byte ∨ ty = .boolean ∨ ty = .long ∨ ty = .int) (h : (Cond.arrayClass ty).before args s = true) : ∃ cA : ClassId, ArrOfT s cA ty ∧ va_RA s cA ty := by
  obtain ⟨cA, kA, comp, h1, h2, h3⟩ := Cond.arrayClass_spec h
  refine ⟨cA, fun n z => ⟨fun k h => (by cases h), kA, h2, comp, h3⟩, ?_⟩
  rcases h4 with rfl | rfl | rfl | rfl <;> exact h1
set_option maxHeartbeats 4000000 in
/-- THE LAW, from its entry -/
theorem whole_start {p : Program} {e : Env} {s : State} {m : MethodId} {below : List Frame} {meth : Method} {c : Code} (l : Launch) {b L : Nat} {xs : Nat → Int32} (hL : L ≤ 320) (C0 : lw_At p s m meth c b L xs) : W p l e room_1 s m #[Value.ref b] below meth c s.heap [] 0 0 (lw_Z below #[Value.ref b] s) (entryFrame m ([Value.ref b] : List Value).toArray 4) := by
  obtain ⟨hx, hb, hr, hml, hown, hts0, hX, hbl, hlocks, hgv⟩ := id C0
  have hts : ∀ w ∈ lw_all, w.before #[Value.ref b] s = true := fun w h => hts0 w (lw_all_tbl h)
  have hA : ∀ q : Nat, s.heap.size ≤ q → (fun q : Nat => s.heap.size ≤ q) q := fun _ h => h
  have hbA : ¬ (fun q : Nat => s.heap.size ≤ q) b := Nat.not_le.mpr hbl
  obtain ⟨c0, iS0, hKn0⟩ := u_known (C := RX0) (T := TX0) (N := 13) (n := 13) hts in_X0 (hts _ q24)
  obtain ⟨c1, iS1, hKn1⟩ := u_known (C := RX1) (T := TX1) (N := 7) (n := 7) hts in_X1 (hts _ q196)
  obtain ⟨dC, dI, hKc⟩ : ∃ (dC : Nat → ClassId) (dI : Nat → Nat → Nat), ∀ (k : Nat) (q : vw_C), vwCl[k]? = some q → u_Kn s q.1 q.2.1 q.2.2 (dC k) (dI k) := by
    refine ⟨fun k => if k = 0 then c0 else c1, fun k => if k = 0 then iS0 else iS1, ?_⟩
    intro k q hq
    match k, hq with
    | 0, hq => cases hq; exact hKn0
    | 1, hq => cases hq; exact hKn1
    | k + 2, hq => simp [vwCl] at hq
  obtain ⟨d1, d1a, d1b⟩ := arrK_of (ty := .byte) (Or.inl rfl) (hts _ q71)
  obtain ⟨d2, d2a, d2b⟩ := arrK_of (ty := .boolean) (Or.inr (Or.inl rfl)) (hts _ q72)
  obtain ⟨d3, d3a, d3b⟩ := arrK_of (ty := .long) (Or.inr (Or.inr (Or.inl rfl))) (hts _ q73)
  obtain ⟨d4, d4a, d4b⟩ := arrK_of (ty := .int) (Or.inr (Or.inr (Or.inr rfl))) (hts _ q223)
  obtain ⟨K, hKe⟩ : ∃ K : zK, K = ((dC, dI), d1, d2, d3, d4) := ⟨_, rfl⟩
  have hK : va_K K.1 vwCl (zt K) s := by
    rw [hKe]
    refine ⟨hKc, fun k q hq => ?_⟩
    match k, hq with
    | 0, hq => cases hq; exact ⟨d1a, d1b⟩
    | 1, hq => cases hq; exact ⟨d2a, d2b⟩
    | 2, hq => cases hq; exact ⟨d3a, d3b⟩
    | 3, hq => cases hq; exact ⟨d4a, d4b⟩
    | k + 4, hq => simp at hq
  have hS : va_S (fun q : Nat => s.heap.size ≤ q) s.heap s.heap [] := va_S.rf
  have hP : va_P K.1 vwCl [] s.heap := fun k q h => by simp at h
  have hD : va_D (fun q : Nat => s.heap.size ≤ q) [] := ⟨fun i j p q h => by simp at h, fun k q h => by simp at h⟩
  have hl := lv_entry ([.ref b]) (n := 4) (Nat.le_of_ble_eq_true rfl)
  rw [lg_entry_eq]
  generalize (lg_sl ([.ref b]) ++ List.replicate (4 - (lg_sl ([.ref b])).length) Slot.unset).toArray = ls at hl ⊢
  have hl : lv_has ls 4 [(0, .ref b)] := hl
  refine va_new (ci := 0) (fs := eF0) (C := RX0) (T := TX0) (N := 13) hx hb hts in_X0 tyX0 tyX0_ok hown (hts _ q23) (hts _ q24) (hts _ q21) hK hP hD hS hA rfl (fun j hj => by rcases (show j = 0 ∨ j = 1 ∨ j = 2 ∨ j = 3 ∨ j = 4 ∨ j = 5 ∨ j = 6 ∨ j = 7 ∨ j = 8 ∨ j = 9 ∨ j = 10 ∨ j = 11 ∨ j = 12 by omega) with rfl | rfl | rfl | rfl | rfl | rfl | rfl | rfl | rfl | rfl | rfl | rfl | rfl <;> rfl) (Nat.le_of_ble_eq_true rfl) (Nat.le_of_ble_eq_true rfl) dL_law_0 (fun o1 H hP hD hS => ?_)
  have hP : va_P K.1 vwCl [(o1, .inr (0, eF0))] H := hP
  have hD : va_D (fun q : Nat => s.heap.size ≤ q) [(o1, .inr (0, eF0))] := hD
  refine lv_dup hx hb dL_law_3 rfl ?_
  have hPc := hP.sub (ws' := [(o1, .inr (0, eF0))]) [0] rfl
  have hDc := hD.sub (ws' := [(o1, .inr (0, eF0))]) [0] (by decide) rfl
  have hFc := va_free (wc := [(o1, .inr (0, eF0))]) hD hS hA [0] rfl
  refine va_callv (va_runI (As := []) (rest := [.ref o1]) ⟨hx, hb, hml, hown, hts⟩ (e_init l K o1 H.size) (cwI 0 hts (lw_meth q27) rfl rfl rfl (hts _ q21) (hts _ q25) (hts _ q26) rfl (by decide +kernel) ⟨Nat.le_of_ble_eq_true rfl, Nat.le_of_ble_eq_true rfl⟩) ⟨fun a U g mk q => by obtain ⟨q0, q1, qP, qK, qD⟩ := q; exact ⟨q0, q1, qP, va_K.moved (u := U) (U := U.calling g mk a) (Vm.Alike.refl U.vm) qK, qD⟩, fun U hU hW => ⟨rfl, by rw [hU], by rw [hU]; exact hPc, va_K.moved hW.alike hK, hDc.weaken (fun _ _ _ _ => trivial)⟩⟩ rfl rfl hl.1 rfl (lv_room (Nat.le_of_ble_eq_true rfl)) dL_law_4 ⟨Nat.le_of_ble_eq_true rfl, Nat.le_of_ble_eq_true rfl⟩) hS (fun q _ h => hFc q h) hFc (fun qe t H1 locs1 ht hvm hw1 hB hz1 hk1 hS => ?_)
  obtain ⟨hP1, hK1, hD1⟩ := hB
  rw [ht] at hP1
  obtain ⟨hP, hD⟩ := va_join (wr := []) (w1 := eW K qe eZ) hP hD [0] [] rfl rfl (by decide) (by decide) hk1 hFc hP1 hD1
  have hP : va_P K.1 vwCl (eW K qe eZ) H1 := hP
  have hD : va_D (fun q : Nat => s.heap.size ≤ q) (eW K qe eZ) := hD
  rw [← hw1]
  refine lv_astore_n (lv' := [(1, .ref (qe 0)), (0, .ref b)]) hx hb dL_law_7 rfl hl (by decide) rfl (fun ls hl => ?_)
  refine va_new (ci := 1) (fs := mF0) (C := RX1) (T := TX1) (N := 7) hx hb hts in_X1 tyX1 tyX1_ok hown (hts _ q195) (hts _ q196) (hts _ q22) hK hP hD hS hA rfl (fun j hj => by rcases (show j = 0 ∨ j = 1 ∨ j = 2 ∨ j = 3 ∨ j = 4 ∨ j = 5 ∨ j = 6 by omega) with rfl | rfl | rfl | rfl | rfl | rfl | rfl <;> rfl) (Nat.le_of_ble_eq_true rfl) (Nat.le_of_ble_eq_true rfl) dL_law_8 (fun o2 H hP hD hS => ?_)
  refine lv_dup hx hb dL_law_11 rfl ?_
  have hPc := hP.sub (ws' := [(o2, .inr (1, mF0))]) [13] rfl
  have hDc := hD.sub (ws' := [(o2, .inr (1, mF0))]) [13] (by decide) rfl
  have hFc := va_free (wc := [(o2, .inr (1, mF0))]) hD hS hA [13] rfl
  refine va_callv (va_runI (As := []) (rest := [.ref o2]) ⟨hx, hb, hml, hown, hts⟩ (m_init l K o2 H.size) (cwI 0 hts (lw_meth q199) rfl rfl rfl (hts _ q22) (hts _ q197) (hts _ q198) rfl (by decide +kernel) ⟨Nat.le_of_ble_eq_true rfl, Nat.le_of_ble_eq_true rfl⟩) ⟨fun a U g mk q => by obtain ⟨q0, q1, qP, qK, qD⟩ := q; exact ⟨q0, q1, qP, va_K.moved (u := U) (U := U.calling g mk a) (Vm.Alike.refl U.vm) qK, qD⟩, fun U hU hW => ⟨rfl, by rw [hU], by rw [hU]; exact hPc, va_K.moved hW.alike hK, hDc.weaken (fun _ _ _ _ => trivial)⟩⟩ rfl rfl hl.1 rfl (lv_room (Nat.le_of_ble_eq_true rfl)) dL_law_12 ⟨Nat.le_of_ble_eq_true rfl, Nat.le_of_ble_eq_true rfl⟩) hS (fun q _ h => hFc q h) hFc (fun qm t2 H2 locs2 ht2 hvm2 hw2 hB2 hz2 hk2 hS => ?_)
  obtain ⟨hP2, hK2, hD2⟩ := hB2
  rw [ht2] at hP2
  obtain ⟨hP, hD⟩ := va_join (wr := eW K qe eZ) (w1 := mW K qm mZ) hP hD [13] [0, 1, 2, 3, 4, 5, 6, 7, 8, 9, 10, 11, 12] rfl rfl (by decide) (by decide) hk2 hFc hP2 hD2
  rw [← hw2]
  refine lv_astore_n (lv' := [(2, .ref (qm 0)), (1, .ref (qe 0)), (0, .ref b)]) hx hb dL_law_15 rfl hl (by decide) rfl (fun ls hl => ?_)
  refine lv_iconst (v := nI 0) hx hb dL_law_16 (by decide) ?_
  refine lv_istore_n (lv' := [(3, .int (nI 0)), (2, .ref (qm 0)), (1, .ref (qe 0)), (0, .ref b)]) hx hb dL_law_17 rfl hl (by decide) rfl (fun ls hl => ?_)
  exact law_loop (X := ((p, l, e, room_1), (s, m, #[Value.ref b], below), (meth, c, 21, 195), (lw_Z below #[Value.ref b] s, fun q : Nat => s.heap.size ≤ q, K))) (q := qe) (q' := qm) (b := b) (L := L) (xs := xs) ⟨⟨hx, hb, hml, hown, hts⟩, hA, hK, rfl, hlocks, ⟨Nat.le_of_ble_eq_true rfl, Nat.le_of_ble_eq_true rfl⟩⟩ hL hX hbl hbA (fun Z lv H3 locs3 ls3 hP3 hD3 hS3 hl3 => W.widen (k := 600000) (n := 7290000) (Nat.le_of_ble_eq_true rfl) (Nat.le_of_ble_eq_true rfl) (va_forget (fun q hq => hS3.2.2 q hq) (lw_ret hx hb hr hlocks dL_law_449))) (L + 1) 0 eZ mZ (by omega) (by omega) Z_I mZ_ok Z_rel H2 locs2 ls hP hD hS (lv_sub hl [3, 2, 1, 0] rfl)
set_option maxHeartbeats 4000000 in
theorem lw_walk (l : Launch) (b : Addr) (xs : List Int32) : MetFree l x (headSpec (Jvm.Cond.code x code maxLocals ret :: tables_1) room_1) (lw_P b xs) (fun _ _ _ _ _ => True) lw_Q := by
  refine MetFree.of_bodyS (code := code) (maxLocals := maxLocals) (ret := ret) (by decide) ?_ ?_
  · intro args s m h hn
    obtain ⟨meth, c, h1, h2, h3, h4, h5, h6, -, -⟩ := Cond.code_spec hn (atoms_spec (ws := Jvm.Cond.code x code maxLocals ret :: tables_1) h _ List.mem_cons_self)
    exact ⟨meth, c, h1, h2, h3, h4, h5, h6⟩
  · intro p e s m args below meth c s₁ B hml0 hP _
    obtain ⟨rfl, hx, hbd, hgv⟩ := hP
    obtain ⟨scr, harrAt, hlist, hof, hsmall⟩ := hx
    obtain ⟨hcb, hkn, -, -⟩ := State.arrayAt?_spec harrAt
    have hown : s.vm.findClass R_law = some m.cls := findClass_of_methodNamed B.named
    have hts0 : ∀ c ∈ (Jvm.Cond.code x code maxLocals ret :: tables_1), c.before #[Value.ref b] s = true := atoms_spec (ws := Jvm.Cond.code x code maxLocals ret :: tables_1) B.pre
    have hts : ∀ w ∈ lw_tbl, w.before #[Value.ref b] s = true := k2_hts_sels lw_privs (fun w hw => hts0 w (List.mem_cons_of_mem _ hw)) lw_privs_ok
    have hml : c.maxLocals = 4 := B.maxLocals_eq (hts0 _ List.mem_cons_self)
    have X₀ : Stand p l e room_1 s m #[Value.ref b] below meth c s₁ [] 0 0 := Stand.of_body B
    have hh0 : s₁.heap = s.heap := by rw [B.state]; rfl
    have hsz : scr.slots.size = xs.length := by rw [← Array.length_toList, hlist, List.length_map]
    have hval : ∀ j : Nat, j < xs.length → scr.slots[j]? = some (.int (xs.getD j 0)) := fun j hj => by
      rw [← Array.getElem?_toList, hlist]
      simp [hj]
    have hbl : b < s.heap.size := (Array.getElem?_eq_some_iff.mp hcb).1
    have hX : va_X b xs.length (fun j => xs.getD j 0) s s.heap := ⟨scr, hcb, hof, hkn, hsz, hval⟩
    have K : W p l e room_1 s m #[Value.ref b] below meth c s₁.heap [] 0 0 (lw_Z below #[Value.ref b] s) (entryFrame m ([Value.ref b] : List Value).toArray 4) := by
      rw [hh0]
      exact whole_start l hbd ⟨B.exec, B.bytes, B.returns, hml, hown, hts, hX, hbl, B.notSynchronized, hgv⟩
    obtain ⟨t, a1, o, b1, b2, b3⟩ := K s₁ rfl X₀
    exact ⟨t, o, a1, b1, b2, b3⟩
theorem lw_pre_spec {args : Array Value} {s : State} (h : (Jvm.Cond.and given_1 narrow_1).before args s = true) (hr : rest_1_c.before args s = true) : ∃ (b : Addr) (xs : List Int32), lw_P b xs args s := by
  have hs := flat_of_before _ h
  have hq := flat_of_before _ hr
  have hc : (Cond.count 1).before args s = true := hs _ (by decide +kernel)
  have harr : (Cond.arrayOf (.arg 0) .int).before args s = true := hs _ (by decide +kernel)
  have hle : (Cond.le (.length (.arg 0)) (.int 320)).before args s = true := hs _ (by decide +kernel)
  have hlen : (Cond.isInt (.length (.arg 0))).before args s = true := hq _ (by decide +kernel)
  have hall : (Cond.all (.arg 0) (.isInt (.elem (.arg 0) (.index 0)))).before args s = true := hq _ (by decide +kernel)
  obtain ⟨b, xs, hb, hx⟩ := State.ints_of_pre rfl harr hlen hall
  have hsm : xs.length < 2 ^ 31 := hx.choose_spec.2.2.2
  have hev : (Term.length (.arg 0)).eval args s none [] s = some (.int xs.length.toInt32) := hx.length_eval hb
  have hv := Cond.le_ints hev (show (Term.int 320).eval args s none [] s = some (.int 320) from rfl)
  have hd : xs.length.toInt32 ≤ 320 := by
    simpa [Cond.before, Cond.holds, hv] using hle
  have hN : xs.length ≤ 320 := (Int32.ofNat_le_ofNat hsm (by decide)).mp (show Int32.ofNat xs.length ≤ Int32.ofNat 320 from hd)
  exact ⟨b, xs, Cond.one_arg hc (show args[0]? = some (.ref b) from hb), hx, hN, h⟩
theorem lw_comes (l : Launch) : Comes l x (Jvm.Cond.code x code maxLocals ret :: tables_1) room_1 (fun tb e args s => Calls_1 tb e args s ∧ rest_1 tb e args s ∧ Pre_1 tb e args s)
    (fun _ _ args s o t => lw_Q args s o t) := by
  intro p e ha hc hk s m args below hf hfit hheap happ hpre
  obtain ⟨b, xs, hP⟩ := lw_pre_spec hpre.2.2 hpre.2.1
  obtain ⟨k, o, h1, h2, h3, hQ⟩ := lw_walk l b xs p e ha hc hk s m args below hf ((Spec.applies_iff_loose hf).mp happ).1 hP trivial
  exact ⟨k, o, h1, h2, h3, hQ⟩
theorem lw_frame {s t : State} {o : Outcome} {args : Array Value} (h : Framed s o t [] 600000 7290000) :
    Framed s o t (fieldLocs frame_1_writes args s ++ arrayLocs frame_1_arrays args s ++ staticLocs frame_1_statics s) 600000 7290000 := h
theorem lw_limb (L : Cond) (hL : ∀ (args : Array Value) (s t : State), L.after args s (.returned (some (.int 1))) t = true) :
    ArmFor flags0 classFile x code maxLocals ret World_1 tables_1 room_1 Calls_1 rest_1 Pre_1
      (fun tb e a s o t => postC L tb e a s o t ∧ Framed s o t (fieldLocs frame_1_writes a s ++ arrayLocs frame_1_arrays a s ++ staticLocs frame_1_statics s) 600000 7290000) := by
  intro l _ _ _ p e ha hc hk s m args below hf hfit hheap happ hpre
  obtain ⟨k, o, h1, h2, h3, rfl, hF⟩ := lw_comes l p e ha hc hk s m args below hf hfit hheap happ hpre
  exact ⟨k, _, h1, h2, h3, hL args s _, lw_frame hF⟩
theorem i_vc : Claimed_1_1 ∧ Claimed_1_2 := ⟨lw_limb limb_1_1 (fun args s t => by simp [limb_1_1, Cond.after, Cond.holds, Cond.value]), lw_limb limb_1_2 (fun args s t => Cond.after_iff.mpr (by
  first | (rw [show limb_1_2 = Cond.eq .result (.int 1) from rfl, Cond.eq_ints (x := 1) (y := 1) rfl rfl]; simp; done) | (simp [limb_1_2, Cond.value, Term.eval]; done)))⟩
end
