section
-- ===== PART A: goes FIRST, ahead of the names: the tables' words, and 'selects' of the private methods out of them =====
/-- a private method of a class that the tables say can be made, by its rows of tables_1 -/
def lw_okq (q : MethodName × Nat) : Prop := (q.1.cls ≠ "java/lang/invoke/MethodHandle" ∧ q.1.cls ≠ "java/lang/invoke/VarHandle") ∧ Cond.instantiable q.1.cls q.2 ∈ tables_1 ∧ Cond.privateMethod q.1 ∈ tables_1 ∧ Cond.instanceMethod q.1 ∈ tables_1
set_option maxRecDepth 100000
theorem lw_p0 : lw_okq (⟨"DrcScan", "isSpan", "(I)Z"⟩, 9) := ⟨⟨by decide +kernel, by decide +kernel⟩, List.mem_of_getElem? (i := 4) rfl, List.mem_of_getElem? (i := 46) rfl, List.mem_of_getElem? (i := 47) rfl⟩
theorem lw_p1 : lw_okq (⟨"DrcScan", "isLayer", "(I)Z"⟩, 9) := ⟨⟨by decide +kernel, by decide +kernel⟩, List.mem_of_getElem? (i := 4) rfl, List.mem_of_getElem? (i := 58) rfl, List.mem_of_getElem? (i := 59) rfl⟩
theorem lw_p2 : lw_okq (⟨"DrcScan", "rowsAt", "(II)I"⟩, 9) := ⟨⟨by decide +kernel, by decide +kernel⟩, List.mem_of_getElem? (i := 4) rfl, List.mem_of_getElem? (i := 62) rfl, List.mem_of_getElem? (i := 63) rfl⟩
theorem lw_p3 : lw_okq (⟨"DrcScan", "sweep", "(III)V"⟩, 9) := ⟨⟨by decide +kernel, by decide +kernel⟩, List.mem_of_getElem? (i := 4) rfl, List.mem_of_getElem? (i := 70) rfl, List.mem_of_getElem? (i := 71) rfl⟩
theorem lw_p4 : lw_okq (⟨"DrcScan", "linesOf", "(I)I"⟩, 9) := ⟨⟨by decide +kernel, by decide +kernel⟩, List.mem_of_getElem? (i := 4) rfl, List.mem_of_getElem? (i := 74) rfl, List.mem_of_getElem? (i := 75) rfl⟩
theorem lw_p5 : lw_okq (⟨"DrcScan", "widthOf", "(I)I"⟩, 9) := ⟨⟨by decide +kernel, by decide +kernel⟩, List.mem_of_getElem? (i := 4) rfl, List.mem_of_getElem? (i := 79) rfl, List.mem_of_getElem? (i := 80) rfl⟩
theorem lw_p6 : lw_okq (⟨"DrcScan", "bitsIn", "(I)I"⟩, 9) := ⟨⟨by decide +kernel, by decide +kernel⟩, List.mem_of_getElem? (i := 4) rfl, List.mem_of_getElem? (i := 83) rfl, List.mem_of_getElem? (i := 84) rfl⟩
theorem lw_p7 : lw_okq (⟨"DrcScan", "shortRuns", "(IIZ)I"⟩, 9) := ⟨⟨by decide +kernel, by decide +kernel⟩, List.mem_of_getElem? (i := 4) rfl, List.mem_of_getElem? (i := 99) rfl, List.mem_of_getElem? (i := 100) rfl⟩
theorem lw_p8 : lw_okq (⟨"DrcScan", "markShortRows", "(IZ)V"⟩, 9) := ⟨⟨by decide +kernel, by decide +kernel⟩, List.mem_of_getElem? (i := 4) rfl, List.mem_of_getElem? (i := 103) rfl, List.mem_of_getElem? (i := 104) rfl⟩
theorem lw_p9 : lw_okq (⟨"DrcScan", "markRun", "(IIIZ)I"⟩, 9) := ⟨⟨by decide +kernel, by decide +kernel⟩, List.mem_of_getElem? (i := 4) rfl, List.mem_of_getElem? (i := 107) rfl, List.mem_of_getElem? (i := 108) rfl⟩
theorem lw_p10 : lw_okq (⟨"DrcScan", "markedArea", "()I"⟩, 9) := ⟨⟨by decide +kernel, by decide +kernel⟩, List.mem_of_getElem? (i := 4) rfl, List.mem_of_getElem? (i := 111) rfl, List.mem_of_getElem? (i := 112) rfl⟩
theorem lw_p11 : lw_okq (⟨"DrcScan", "isWithin", "(I)Z"⟩, 9) := ⟨⟨by decide +kernel, by decide +kernel⟩, List.mem_of_getElem? (i := 4) rfl, List.mem_of_getElem? (i := 124) rfl, List.mem_of_getElem? (i := 125) rfl⟩
theorem lw_p12 : lw_okq (⟨"DrcScan", "widen", "()V"⟩, 9) := ⟨⟨by decide +kernel, by decide +kernel⟩, List.mem_of_getElem? (i := 4) rfl, List.mem_of_getElem? (i := 128) rfl, List.mem_of_getElem? (i := 129) rfl⟩
theorem lw_p13 : lw_okq (⟨"DrcScanModel", "isLayer", "(I)Z"⟩, 6) := ⟨⟨by decide +kernel, by decide +kernel⟩, List.mem_of_getElem? (i := 132) rfl, List.mem_of_getElem? (i := 162) rfl, List.mem_of_getElem? (i := 163) rfl⟩
theorem lw_p14 : lw_okq (⟨"DrcScanModel", "has", "(III)Z"⟩, 6) := ⟨⟨by decide +kernel, by decide +kernel⟩, List.mem_of_getElem? (i := 132) rfl, List.mem_of_getElem? (i := 174) rfl, List.mem_of_getElem? (i := 175) rfl⟩
theorem lw_p15 : lw_okq (⟨"DrcScanModel", "combine", "(III)Z"⟩, 6) := ⟨⟨by decide +kernel, by decide +kernel⟩, List.mem_of_getElem? (i := 132) rfl, List.mem_of_getElem? (i := 182) rfl, List.mem_of_getElem? (i := 183) rfl⟩
def lw_privs_1 : List (MethodName × Nat) := [(⟨"DrcScan", "isSpan", "(I)Z"⟩, 9), (⟨"DrcScan", "isLayer", "(I)Z"⟩, 9), (⟨"DrcScan", "rowsAt", "(II)I"⟩, 9), (⟨"DrcScan", "sweep", "(III)V"⟩, 9), (⟨"DrcScan", "linesOf", "(I)I"⟩, 9), (⟨"DrcScan", "widthOf", "(I)I"⟩, 9), (⟨"DrcScan", "bitsIn", "(I)I"⟩, 9), (⟨"DrcScan", "shortRuns", "(IIZ)I"⟩, 9), (⟨"DrcScan", "markShortRows", "(IZ)V"⟩, 9), (⟨"DrcScan", "markRun", "(IIIZ)I"⟩, 9), (⟨"DrcScan", "markedArea", "()I"⟩, 9), (⟨"DrcScan", "isWithin", "(I)Z"⟩, 9), (⟨"DrcScan", "widen", "()V"⟩, 9), (⟨"DrcScanModel", "isLayer", "(I)Z"⟩, 6), (⟨"DrcScanModel", "has", "(III)Z"⟩, 6), (⟨"DrcScanModel", "combine", "(III)Z"⟩, 6)]
theorem lw_r1 : ∀ q ∈ lw_privs_1, lw_okq q := List.forall_mem_cons.mpr ⟨lw_p0, List.forall_mem_cons.mpr ⟨lw_p1, List.forall_mem_cons.mpr ⟨lw_p2, List.forall_mem_cons.mpr ⟨lw_p3, List.forall_mem_cons.mpr ⟨lw_p4, List.forall_mem_cons.mpr ⟨lw_p5, List.forall_mem_cons.mpr ⟨lw_p6, List.forall_mem_cons.mpr ⟨lw_p7, List.forall_mem_cons.mpr ⟨lw_p8, List.forall_mem_cons.mpr ⟨lw_p9, List.forall_mem_cons.mpr ⟨lw_p10, List.forall_mem_cons.mpr ⟨lw_p11, List.forall_mem_cons.mpr ⟨lw_p12, List.forall_mem_cons.mpr ⟨lw_p13, List.forall_mem_cons.mpr ⟨lw_p14, List.forall_mem_cons.mpr ⟨lw_p15, fun _ h => absurd h List.not_mem_nil⟩⟩⟩⟩⟩⟩⟩⟩⟩⟩⟩⟩⟩⟩⟩⟩
theorem lw_p16 : lw_okq (⟨"DrcScanModel", "in", "(II)Z"⟩, 6) := ⟨⟨by decide +kernel, by decide +kernel⟩, List.mem_of_getElem? (i := 132) rfl, List.mem_of_getElem? (i := 190) rfl, List.mem_of_getElem? (i := 191) rfl⟩
theorem lw_p17 : lw_okq (⟨"DrcScanModel", "run", "(IIIIZ)I"⟩, 6) := ⟨⟨by decide +kernel, by decide +kernel⟩, List.mem_of_getElem? (i := 132) rfl, List.mem_of_getElem? (i := 202) rfl, List.mem_of_getElem? (i := 203) rfl⟩
theorem lw_p18 : lw_okq (⟨"DrcScanModel", "between", "(IIIII)Z"⟩, 6) := ⟨⟨by decide +kernel, by decide +kernel⟩, List.mem_of_getElem? (i := 132) rfl, List.mem_of_getElem? (i := 210) rfl, List.mem_of_getElem? (i := 211) rfl⟩
theorem lw_p19 : lw_okq (⟨"DrcScanModel", "encloses", "(II)Z"⟩, 6) := ⟨⟨by decide +kernel, by decide +kernel⟩, List.mem_of_getElem? (i := 132) rfl, List.mem_of_getElem? (i := 218) rfl, List.mem_of_getElem? (i := 219) rfl⟩
theorem lw_p20 : lw_okq (⟨"DrcScanModel", "around", "(III)Z"⟩, 6) := ⟨⟨by decide +kernel, by decide +kernel⟩, List.mem_of_getElem? (i := 132) rfl, List.mem_of_getElem? (i := 222) rfl, List.mem_of_getElem? (i := 223) rfl⟩
def lw_privs_2 : List (MethodName × Nat) := [(⟨"DrcScanModel", "in", "(II)Z"⟩, 6), (⟨"DrcScanModel", "run", "(IIIIZ)I"⟩, 6), (⟨"DrcScanModel", "between", "(IIIII)Z"⟩, 6), (⟨"DrcScanModel", "encloses", "(II)Z"⟩, 6), (⟨"DrcScanModel", "around", "(III)Z"⟩, 6)]
theorem lw_r2 : ∀ q ∈ lw_privs_2, lw_okq q := List.forall_mem_cons.mpr ⟨lw_p16, List.forall_mem_cons.mpr ⟨lw_p17, List.forall_mem_cons.mpr ⟨lw_p18, List.forall_mem_cons.mpr ⟨lw_p19, List.forall_mem_cons.mpr ⟨lw_p20, fun _ h => absurd h List.not_mem_nil⟩⟩⟩⟩⟩
def lw_privs : List (MethodName × Nat) := lw_privs_1 ++ (lw_privs_2)
def lw_tbl : List Cond := k2_sels lw_privs ++ tables_1
theorem lw_privs_ok : ∀ q ∈ lw_privs, lw_okq q := by
  show ∀ q ∈ lw_privs_1 ++ (lw_privs_2), lw_okq q
  exact List.forall_mem_append.mpr ⟨lw_r1, lw_r2⟩
-- ===== ONE list of words for every method: the tables' words that hold all through a run =====
def lw_all : List Cond := lw_tbl.filter goodWord
/-- a word of the tables by its place: claim/WORDS.tsv -/
theorem lw_w {w : Cond} (i : Nat) (h : lw_tbl[i]? = some w) (g : goodWord w = true) : w ∈ lw_all := List.mem_filter.mpr ⟨List.mem_of_getElem? h, g⟩
theorem lw_all_tbl {w : Cond} (h : w ∈ lw_all) : w ∈ lw_tbl := (List.mem_filter.mp h).1
theorem lw_self : GoodIn lw_all lw_all := fun w h => ⟨h, good_of_word (List.mem_filter.mp h).2⟩
/-- a class's field words, by their places -/
theorem lw_in (ws : List Cond) (ps : List Nat) (hp : ws = ps.filterMap (fun i => lw_tbl[i]?)) (hg : ws.all goodWord = true) : ∀ w ∈ ws, w ∈ lw_all := by
  intro w h
  have h1 := List.all_eq_true.mp hg w h
  rw [hp] at h
  obtain ⟨i, -, hi⟩ := List.mem_filterMap.mp h
  exact lw_w i hi h1
/-- the words of a contract for the method y with code b, L locals, answer r -/
abbrev ws_ (y : MethodName) (b : ByteArray) (L : Nat) (r : Option FieldType) : List Cond := Cond.code y b L r :: lw_all
theorem lw_meth {y : MethodName} {b : ByteArray} {L : Nat} {r : Option FieldType} (h : Cond.code y b L r ∈ lw_all) : GoodIn lw_all (ws_ y b L r) := by
  intro w hw
  rcases List.mem_cons.mp hw with e | e
  · rw [e]
    exact lw_self _ h
  · exact lw_self _ e
theorem lw_app {a c : List Cond} (ha : ∀ w ∈ a, w ∈ lw_all) (hc : GoodIn lw_all c) : GoodIn lw_all (a ++ c) := by
  intro w hw
  rcases List.mem_append.mp hw with e | e
  · exact lw_self w (ha w e)
  · exact hc w e
/-- what a call through an object asks: cwV n hts (lw_V ..) -/
theorem lw_V {own : String} {idx : Nat} {C : String} {y : MethodName} {b : ByteArray} {L : Nat} {r : Option FieldType} (h1 : Cond.methodLink own idx y ∈ lw_all) (h2 : Cond.instanceMethod y ∈ lw_all) (h3 : Cond.selects C y y ∈ lw_all) (h4 : Cond.initialized C ∈ lw_all) (h5 : Cond.code y b L r ∈ lw_all) : GoodIn lw_all (wsV own idx C y (ws_ y b L r)) := by
  refine lw_app ?_ (lw_meth h5)
  intro w hw
  simp only [List.mem_cons, List.not_mem_nil, or_false] at hw
  rcases hw with e | e | e | e
  · rw [e]; exact h1
  · rw [e]; exact h2
  · rw [e]; exact h3
  · rw [e]; exact h4
/-- what a static call asks: va_cwS n hts (lw_S ..) -/
theorem lw_S {own : String} {idx : Nat} {y : MethodName} {b : ByteArray} {L : Nat} {r : Option FieldType} (h1 : Cond.methodLink own idx y ∈ lw_all) (h2 : Cond.static y ∈ lw_all) (h3 : Cond.initialized y.cls ∈ lw_all) (h4 : Cond.code y b L r ∈ lw_all) : GoodIn lw_all (va_wsS own idx y (ws_ y b L r)) := by
  refine lw_app ?_ (lw_meth h4)
  intro w hw
  simp only [List.mem_cons, List.not_mem_nil, or_false] at hw
  rcases hw with e | e | e
  · rw [e]; exact h1
  · rw [e]; exact h2
  · rw [e]; exact h3
/-- the words of a contract for a method WITH HANDLERS (hh: its table) -/
abbrev wsW_ (y : MethodName) (b : ByteArray) (L : Nat) (r : Option FieldType) (hh : List (Nat × Nat × Nat × Nat)) : List Cond := Cond.codeWith y b L r hh :: lw_all
theorem lw_methW {y : MethodName} {b : ByteArray} {L : Nat} {r : Option FieldType} {hh : List (Nat × Nat × Nat × Nat)} (h : Cond.codeWith y b L r hh ∈ lw_all) : GoodIn lw_all (wsW_ y b L r hh) := by
  intro w hw
  rcases List.mem_cons.mp hw with e | e
  · rw [e]
    exact lw_self _ h
  · exact lw_self _ e
/-- any list of words by their places (lw_in), good -/
theorem lw_good {ws : List Cond} (h : ∀ w ∈ ws, w ∈ lw_all) : GoodIn lw_all ws := fun w hw => lw_self w (h w hw)
/-- what a call of a method with handlers asks: vx_cwVW n hts (lw_VW ..), vx_cwSW n hts (lw_SW ..) -/
theorem lw_VW {own : String} {idx : Nat} {C : String} {y : MethodName} {b : ByteArray} {L : Nat} {r : Option FieldType} {hh : List (Nat × Nat × Nat × Nat)} (h1 : Cond.methodLink own idx y ∈ lw_all) (h2 : Cond.instanceMethod y ∈ lw_all) (h3 : Cond.selects C y y ∈ lw_all) (h4 : Cond.initialized C ∈ lw_all) (h5 : Cond.codeWith y b L r hh ∈ lw_all) : GoodIn lw_all (wsV own idx C y (wsW_ y b L r hh)) := by
  refine lw_app ?_ (lw_methW h5)
  intro w hw
  simp only [List.mem_cons, List.not_mem_nil, or_false] at hw
  rcases hw with e | e | e | e
  · rw [e]; exact h1
  · rw [e]; exact h2
  · rw [e]; exact h3
  · rw [e]; exact h4
theorem lw_SW {own : String} {idx : Nat} {y : MethodName} {b : ByteArray} {L : Nat} {r : Option FieldType} {hh : List (Nat × Nat × Nat × Nat)} (h1 : Cond.methodLink own idx y ∈ lw_all) (h2 : Cond.static y ∈ lw_all) (h3 : Cond.initialized y.cls ∈ lw_all) (h4 : Cond.codeWith y b L r hh ∈ lw_all) : GoodIn lw_all (va_wsS own idx y (wsW_ y b L r hh)) := by
  refine lw_app ?_ (lw_methW h4)
  intro w hw
  simp only [List.mem_cons, List.not_mem_nil, or_false] at hw
  rcases hw with e | e | e
  · rw [e]; exact h1
  · rw [e]; exact h2
  · rw [e]; exact h3
/-- a word by its place in its run of the tables -/
theorem lw_at {r : List Cond} (hr : ∀ w ∈ r, w ∈ lw_tbl) {w : Cond} (i : Nat) (h : r[i]? = some w) : w ∈ lw_tbl := hr w (List.mem_of_getElem? h)
theorem lw_g {w : Cond} (h : w ∈ lw_tbl) (g : goodWord w = true) : w ∈ lw_all := List.mem_filter.mpr ⟨h, g⟩
theorem lw_ms : ∀ w ∈ k2_sels lw_privs, w ∈ lw_tbl := fun w h => show w ∈ k2_sels lw_privs ++ tables_1 from List.mem_append_left _ h
theorem lw_m0 : ∀ w ∈ tables_1, w ∈ lw_tbl := fun w h => show w ∈ k2_sels lw_privs ++ tables_1 from List.mem_append_right (k2_sels lw_privs) h
theorem qs0 : (Cond.selects "DrcScan" ⟨"DrcScan", "isSpan", "(I)Z"⟩ ⟨"DrcScan", "isSpan", "(I)Z"⟩) ∈ lw_all := lw_g (lw_at lw_ms 0 rfl) rfl
theorem qs1 : (Cond.selects "DrcScan" ⟨"DrcScan", "isLayer", "(I)Z"⟩ ⟨"DrcScan", "isLayer", "(I)Z"⟩) ∈ lw_all := lw_g (lw_at lw_ms 1 rfl) rfl
theorem qs2 : (Cond.selects "DrcScan" ⟨"DrcScan", "rowsAt", "(II)I"⟩ ⟨"DrcScan", "rowsAt", "(II)I"⟩) ∈ lw_all := lw_g (lw_at lw_ms 2 rfl) rfl
theorem qs3 : (Cond.selects "DrcScan" ⟨"DrcScan", "sweep", "(III)V"⟩ ⟨"DrcScan", "sweep", "(III)V"⟩) ∈ lw_all := lw_g (lw_at lw_ms 3 rfl) rfl
theorem qs4 : (Cond.selects "DrcScan" ⟨"DrcScan", "linesOf", "(I)I"⟩ ⟨"DrcScan", "linesOf", "(I)I"⟩) ∈ lw_all := lw_g (lw_at lw_ms 4 rfl) rfl
theorem qs5 : (Cond.selects "DrcScan" ⟨"DrcScan", "widthOf", "(I)I"⟩ ⟨"DrcScan", "widthOf", "(I)I"⟩) ∈ lw_all := lw_g (lw_at lw_ms 5 rfl) rfl
theorem qs6 : (Cond.selects "DrcScan" ⟨"DrcScan", "bitsIn", "(I)I"⟩ ⟨"DrcScan", "bitsIn", "(I)I"⟩) ∈ lw_all := lw_g (lw_at lw_ms 6 rfl) rfl
theorem qs7 : (Cond.selects "DrcScan" ⟨"DrcScan", "shortRuns", "(IIZ)I"⟩ ⟨"DrcScan", "shortRuns", "(IIZ)I"⟩) ∈ lw_all := lw_g (lw_at lw_ms 7 rfl) rfl
theorem qs8 : (Cond.selects "DrcScan" ⟨"DrcScan", "markShortRows", "(IZ)V"⟩ ⟨"DrcScan", "markShortRows", "(IZ)V"⟩) ∈ lw_all := lw_g (lw_at lw_ms 8 rfl) rfl
theorem qs9 : (Cond.selects "DrcScan" ⟨"DrcScan", "markRun", "(IIIZ)I"⟩ ⟨"DrcScan", "markRun", "(IIIZ)I"⟩) ∈ lw_all := lw_g (lw_at lw_ms 9 rfl) rfl
theorem qs10 : (Cond.selects "DrcScan" ⟨"DrcScan", "markedArea", "()I"⟩ ⟨"DrcScan", "markedArea", "()I"⟩) ∈ lw_all := lw_g (lw_at lw_ms 10 rfl) rfl
theorem qs11 : (Cond.selects "DrcScan" ⟨"DrcScan", "isWithin", "(I)Z"⟩ ⟨"DrcScan", "isWithin", "(I)Z"⟩) ∈ lw_all := lw_g (lw_at lw_ms 11 rfl) rfl
theorem qs12 : (Cond.selects "DrcScan" ⟨"DrcScan", "widen", "()V"⟩ ⟨"DrcScan", "widen", "()V"⟩) ∈ lw_all := lw_g (lw_at lw_ms 12 rfl) rfl
theorem qs13 : (Cond.selects "DrcScanModel" ⟨"DrcScanModel", "isLayer", "(I)Z"⟩ ⟨"DrcScanModel", "isLayer", "(I)Z"⟩) ∈ lw_all := lw_g (lw_at lw_ms 13 rfl) rfl
theorem qs14 : (Cond.selects "DrcScanModel" ⟨"DrcScanModel", "has", "(III)Z"⟩ ⟨"DrcScanModel", "has", "(III)Z"⟩) ∈ lw_all := lw_g (lw_at lw_ms 14 rfl) rfl
theorem qs15 : (Cond.selects "DrcScanModel" ⟨"DrcScanModel", "combine", "(III)Z"⟩ ⟨"DrcScanModel", "combine", "(III)Z"⟩) ∈ lw_all := lw_g (lw_at lw_ms 15 rfl) rfl
theorem qs16 : (Cond.selects "DrcScanModel" ⟨"DrcScanModel", "in", "(II)Z"⟩ ⟨"DrcScanModel", "in", "(II)Z"⟩) ∈ lw_all := lw_g (lw_at lw_ms 16 rfl) rfl
theorem qs17 : (Cond.selects "DrcScanModel" ⟨"DrcScanModel", "run", "(IIIIZ)I"⟩ ⟨"DrcScanModel", "run", "(IIIIZ)I"⟩) ∈ lw_all := lw_g (lw_at lw_ms 17 rfl) rfl
theorem qs18 : (Cond.selects "DrcScanModel" ⟨"DrcScanModel", "between", "(IIIII)Z"⟩ ⟨"DrcScanModel", "between", "(IIIII)Z"⟩) ∈ lw_all := lw_g (lw_at lw_ms 18 rfl) rfl
theorem qs19 : (Cond.selects "DrcScanModel" ⟨"DrcScanModel", "encloses", "(II)Z"⟩ ⟨"DrcScanModel", "encloses", "(II)Z"⟩) ∈ lw_all := lw_g (lw_at lw_ms 19 rfl) rfl
theorem qs20 : (Cond.selects "DrcScanModel" ⟨"DrcScanModel", "around", "(III)Z"⟩ ⟨"DrcScanModel", "around", "(III)Z"⟩) ∈ lw_all := lw_g (lw_at lw_ms 20 rfl) rfl
end
section
set_option maxRecDepth 100000
/-! DrcScan -/
def RX0 : String := "DrcScan"
def TX0 : u_T := fun k => match k with
  | 0 => ("DrcScan", "count", "[B", true)
  | 1 => ("DrcScan", "left", "[B", true)
  | 2 => ("DrcScan", "right", "[B", true)
  | 3 => ("DrcScan", "rows", "[I", true)
  | 4 => ("DrcScan", "stripCount", "I", false)
  | 5 => ("DrcScan", "stripX", "[B", true)
  | 6 => ("DrcScan", "strip", "[I", true)
  | 7 => ("DrcScan", "marked", "[I", true)
  | _ => ("DrcScan", "columns", "[I", true)
def tyX0 : Nat → FieldType := fun k => match k with
  | 0 => .array .byte
  | 1 => .array .byte
  | 2 => .array .byte
  | 3 => .array .int
  | 4 => .int
  | 5 => .array .byte
  | 6 => .array .int
  | 7 => .array .int
  | _ => .array .int
abbrev wsX00 : List Cond := u_ws RX0 TX0 9
theorem nmX0 : ∀ a, a < 9 → ∀ b, b < 9 → a ≠ b → (TX0 a).2.1 ≠ (TX0 b).2.1 := by decide +kernel
theorem tyX0_ok : ∀ k, k < 9 → parseFieldDescriptor (TX0 k).2.2.1 = some (tyX0 k) := by decide +kernel
abbrev cX0_init : ByteArray := prog_1_method_1_code
def yX0_init : MethodName := ⟨RX0, "<init>", "()V"⟩
abbrev cX0_add : ByteArray := prog_1_method_2_code
def yX0_add : MethodName := ⟨RX0, "add", "(III)I"⟩
abbrev cX0_isSpan : ByteArray := prog_1_method_3_code
def yX0_isSpan : MethodName := ⟨RX0, "isSpan", "(I)Z"⟩
abbrev cX0_drop : ByteArray := prog_1_method_4_code
def yX0_drop : MethodName := ⟨RX0, "drop", "(I)I"⟩
abbrev cX0_covers : ByteArray := prog_1_method_5_code
def yX0_covers : MethodName := ⟨RX0, "covers", "(III)Z"⟩
abbrev cX0_isLayer : ByteArray := prog_1_method_12_code
def yX0_isLayer : MethodName := ⟨RX0, "isLayer", "(I)Z"⟩
abbrev cX0_rowsAt : ByteArray := prog_1_method_14_code
def yX0_rowsAt : MethodName := ⟨RX0, "rowsAt", "(II)I"⟩
abbrev cX0_area : ByteArray := prog_1_method_6_code
def yX0_area : MethodName := ⟨RX0, "area", "(III)I"⟩
abbrev cX0_sweep : ByteArray := prog_1_method_17_code
def yX0_sweep : MethodName := ⟨RX0, "sweep", "(III)V"⟩
abbrev cX0_linesOf : ByteArray := prog_1_method_16_code
def yX0_linesOf : MethodName := ⟨RX0, "linesOf", "(I)I"⟩
abbrev cX0_widthOf : ByteArray := prog_1_method_15_code
def yX0_widthOf : MethodName := ⟨RX0, "widthOf", "(I)I"⟩
abbrev cX0_bitsIn : ByteArray := prog_1_method_13_code
def yX0_bitsIn : MethodName := ⟨RX0, "bitsIn", "(I)I"⟩
abbrev cX0_outline : ByteArray := prog_1_method_7_code
def yX0_outline : MethodName := ⟨RX0, "outline", "(III)I"⟩
abbrev cX0_corners : ByteArray := prog_1_method_8_code
def yX0_corners : MethodName := ⟨RX0, "corners", "(III)I"⟩
abbrev cX0_thin : ByteArray := prog_1_method_9_code
def yX0_thin : MethodName := ⟨RX0, "thin", "(II)I"⟩
abbrev cX0_shortRuns : ByteArray := prog_1_method_18_code
def yX0_shortRuns : MethodName := ⟨RX0, "shortRuns", "(IIZ)I"⟩
abbrev cX0_markShortRows : ByteArray := prog_1_method_19_code
def yX0_markShortRows : MethodName := ⟨RX0, "markShortRows", "(IZ)V"⟩
abbrev cX0_markRun : ByteArray := prog_1_method_20_code
def yX0_markRun : MethodName := ⟨RX0, "markRun", "(IIIZ)I"⟩
abbrev cX0_markedArea : ByteArray := prog_1_method_21_code
def yX0_markedArea : MethodName := ⟨RX0, "markedArea", "()I"⟩
abbrev cX0_gaps : ByteArray := prog_1_method_10_code
def yX0_gaps : MethodName := ⟨RX0, "gaps", "(II)I"⟩
abbrev cX0_enclosure : ByteArray := prog_1_method_11_code
def yX0_enclosure : MethodName := ⟨RX0, "enclosure", "(II)I"⟩
abbrev cX0_isWithin : ByteArray := prog_1_method_22_code
def yX0_isWithin : MethodName := ⟨RX0, "isWithin", "(I)Z"⟩
abbrev cX0_widen : ByteArray := prog_1_method_23_code
def yX0_widen : MethodName := ⟨RX0, "widen", "()V"⟩
theorem q22 : (Jvm.Cond.initialized "DrcScan") ∈ lw_all := lw_g (lw_at lw_m0 1 rfl) rfl
theorem q25 : (Jvm.Cond.instantiable "DrcScan" (9 : Nat)) ∈ lw_all := lw_g (lw_at lw_m0 4 rfl) rfl
theorem q27 : (Jvm.Cond.instanceMethod ({ cls := "DrcScan", name := "<init>", desc := "()V" } : Jvm.MethodName)) ∈ lw_all := lw_g (lw_at lw_m0 6 rfl) rfl
theorem q28 : (Jvm.Cond.code ({ cls := "DrcScan", name := "<init>", desc := "()V" } : Jvm.MethodName) prog_1_method_1_code (1 : Nat) (Option.none : Option Jvm.ClassFile.FieldType)) ∈ lw_all := lw_g (lw_at lw_m0 7 rfl) rfl
theorem q29 : (Jvm.Cond.methodLink "DrcScan" (1 : Nat) ({ cls := "java/lang/Object", name := "<init>", desc := "()V" } : Jvm.MethodName)) ∈ lw_all := lw_g (lw_at lw_m0 8 rfl) rfl
theorem q32 : (Jvm.Cond.fieldLink "DrcScan" (7 : Nat) "DrcScan" "count" "[B") ∈ lw_all := lw_g (lw_at lw_m0 11 rfl) rfl
theorem q33 : (Jvm.Cond.fieldLink "DrcScan" (13 : Nat) "DrcScan" "left" "[B") ∈ lw_all := lw_g (lw_at lw_m0 12 rfl) rfl
theorem q34 : (Jvm.Cond.fieldLink "DrcScan" (16 : Nat) "DrcScan" "right" "[B") ∈ lw_all := lw_g (lw_at lw_m0 13 rfl) rfl
theorem q35 : (Jvm.Cond.fieldLink "DrcScan" (19 : Nat) "DrcScan" "rows" "[I") ∈ lw_all := lw_g (lw_at lw_m0 14 rfl) rfl
theorem q36 : (Jvm.Cond.fieldLink "DrcScan" (50 : Nat) "DrcScan" "stripCount" "I") ∈ lw_all := lw_g (lw_at lw_m0 15 rfl) rfl
theorem q37 : (Jvm.Cond.fieldLink "DrcScan" (23 : Nat) "DrcScan" "stripX" "[B") ∈ lw_all := lw_g (lw_at lw_m0 16 rfl) rfl
theorem q38 : (Jvm.Cond.fieldLink "DrcScan" (26 : Nat) "DrcScan" "strip" "[I") ∈ lw_all := lw_g (lw_at lw_m0 17 rfl) rfl
theorem q39 : (Jvm.Cond.fieldLink "DrcScan" (29 : Nat) "DrcScan" "marked" "[I") ∈ lw_all := lw_g (lw_at lw_m0 18 rfl) rfl
theorem q40 : (Jvm.Cond.fieldLink "DrcScan" (32 : Nat) "DrcScan" "columns" "[I") ∈ lw_all := lw_g (lw_at lw_m0 19 rfl) rfl
theorem q41 : (Jvm.Cond.laysFinal "DrcScan" "DrcScan" "count" "[B") ∈ lw_all := lw_g (lw_at lw_m0 20 rfl) rfl
theorem q42 : (Jvm.Cond.soleField "DrcScan" "count") ∈ lw_all := lw_g (lw_at lw_m0 21 rfl) rfl
theorem q43 : (Jvm.Cond.laysFinal "DrcScan" "DrcScan" "left" "[B") ∈ lw_all := lw_g (lw_at lw_m0 22 rfl) rfl
theorem q44 : (Jvm.Cond.soleField "DrcScan" "left") ∈ lw_all := lw_g (lw_at lw_m0 23 rfl) rfl
theorem q45 : (Jvm.Cond.laysFinal "DrcScan" "DrcScan" "right" "[B") ∈ lw_all := lw_g (lw_at lw_m0 24 rfl) rfl
theorem q46 : (Jvm.Cond.soleField "DrcScan" "right") ∈ lw_all := lw_g (lw_at lw_m0 25 rfl) rfl
theorem q47 : (Jvm.Cond.laysFinal "DrcScan" "DrcScan" "rows" "[I") ∈ lw_all := lw_g (lw_at lw_m0 26 rfl) rfl
theorem q48 : (Jvm.Cond.soleField "DrcScan" "rows") ∈ lw_all := lw_g (lw_at lw_m0 27 rfl) rfl
theorem q49 : (Jvm.Cond.lays "DrcScan" "DrcScan" "stripCount" "I") ∈ lw_all := lw_g (lw_at lw_m0 28 rfl) rfl
theorem q50 : (Jvm.Cond.soleField "DrcScan" "stripCount") ∈ lw_all := lw_g (lw_at lw_m0 29 rfl) rfl
theorem q51 : (Jvm.Cond.laysFinal "DrcScan" "DrcScan" "stripX" "[B") ∈ lw_all := lw_g (lw_at lw_m0 30 rfl) rfl
theorem q52 : (Jvm.Cond.soleField "DrcScan" "stripX") ∈ lw_all := lw_g (lw_at lw_m0 31 rfl) rfl
theorem q53 : (Jvm.Cond.laysFinal "DrcScan" "DrcScan" "strip" "[I") ∈ lw_all := lw_g (lw_at lw_m0 32 rfl) rfl
theorem q54 : (Jvm.Cond.soleField "DrcScan" "strip") ∈ lw_all := lw_g (lw_at lw_m0 33 rfl) rfl
theorem q55 : (Jvm.Cond.laysFinal "DrcScan" "DrcScan" "marked" "[I") ∈ lw_all := lw_g (lw_at lw_m0 34 rfl) rfl
theorem q56 : (Jvm.Cond.soleField "DrcScan" "marked") ∈ lw_all := lw_g (lw_at lw_m0 35 rfl) rfl
theorem q57 : (Jvm.Cond.laysFinal "DrcScan" "DrcScan" "columns" "[I") ∈ lw_all := lw_g (lw_at lw_m0 36 rfl) rfl
theorem q58 : (Jvm.Cond.soleField "DrcScan" "columns") ∈ lw_all := lw_g (lw_at lw_m0 37 rfl) rfl
theorem q59 : (Jvm.Cond.superclass "DrcScan" "java/lang/Object") ∈ lw_all := lw_g (lw_at lw_m0 38 rfl) rfl
theorem q63 : (Jvm.Cond.instanceMethod ({ cls := "DrcScan", name := "add", desc := "(III)I" } : Jvm.MethodName)) ∈ lw_all := lw_g (lw_at lw_m0 42 rfl) rfl
theorem q64 : (Jvm.Cond.selects "DrcScan" ({ cls := "DrcScan", name := "add", desc := "(III)I" } : Jvm.MethodName) ({ cls := "DrcScan", name := "add", desc := "(III)I" } : Jvm.MethodName)) ∈ lw_all := lw_g (lw_at lw_m0 43 rfl) rfl
theorem q65 : (Jvm.Cond.code ({ cls := "DrcScan", name := "add", desc := "(III)I" } : Jvm.MethodName) prog_1_method_2_code (5 : Nat) (Option.some Jvm.ClassFile.FieldType.int)) ∈ lw_all := lw_g (lw_at lw_m0 44 rfl) rfl
theorem q66 : (Jvm.Cond.methodLink "DrcScan" (35 : Nat) ({ cls := "DrcScan", name := "isSpan", desc := "(I)Z" } : Jvm.MethodName)) ∈ lw_all := lw_g (lw_at lw_m0 45 rfl) rfl
theorem q67 : (Jvm.Cond.privateMethod ({ cls := "DrcScan", name := "isSpan", desc := "(I)Z" } : Jvm.MethodName)) ∈ lw_tbl := lw_at lw_m0 46 rfl
theorem q68 : (Jvm.Cond.instanceMethod ({ cls := "DrcScan", name := "isSpan", desc := "(I)Z" } : Jvm.MethodName)) ∈ lw_all := lw_g (lw_at lw_m0 47 rfl) rfl
theorem q69 : (Jvm.Cond.code ({ cls := "DrcScan", name := "isSpan", desc := "(I)Z" } : Jvm.MethodName) prog_1_method_3_code (4 : Nat) (Option.some Jvm.ClassFile.FieldType.boolean)) ∈ lw_all := lw_g (lw_at lw_m0 48 rfl) rfl
theorem q71 : (Jvm.Cond.instanceMethod ({ cls := "DrcScan", name := "drop", desc := "(I)I" } : Jvm.MethodName)) ∈ lw_all := lw_g (lw_at lw_m0 50 rfl) rfl
theorem q72 : (Jvm.Cond.selects "DrcScan" ({ cls := "DrcScan", name := "drop", desc := "(I)I" } : Jvm.MethodName) ({ cls := "DrcScan", name := "drop", desc := "(I)I" } : Jvm.MethodName)) ∈ lw_all := lw_g (lw_at lw_m0 51 rfl) rfl
theorem q73 : (Jvm.Cond.code ({ cls := "DrcScan", name := "drop", desc := "(I)I" } : Jvm.MethodName) prog_1_method_4_code (3 : Nat) (Option.some Jvm.ClassFile.FieldType.int)) ∈ lw_all := lw_g (lw_at lw_m0 52 rfl) rfl
theorem q75 : (Jvm.Cond.instanceMethod ({ cls := "DrcScan", name := "covers", desc := "(III)Z" } : Jvm.MethodName)) ∈ lw_all := lw_g (lw_at lw_m0 54 rfl) rfl
theorem q76 : (Jvm.Cond.selects "DrcScan" ({ cls := "DrcScan", name := "covers", desc := "(III)Z" } : Jvm.MethodName) ({ cls := "DrcScan", name := "covers", desc := "(III)Z" } : Jvm.MethodName)) ∈ lw_all := lw_g (lw_at lw_m0 55 rfl) rfl
theorem q77 : (Jvm.Cond.code ({ cls := "DrcScan", name := "covers", desc := "(III)Z" } : Jvm.MethodName) prog_1_method_5_code (4 : Nat) (Option.some Jvm.ClassFile.FieldType.boolean)) ∈ lw_all := lw_g (lw_at lw_m0 56 rfl) rfl
theorem q78 : (Jvm.Cond.methodLink "DrcScan" (39 : Nat) ({ cls := "DrcScan", name := "isLayer", desc := "(I)Z" } : Jvm.MethodName)) ∈ lw_all := lw_g (lw_at lw_m0 57 rfl) rfl
theorem q79 : (Jvm.Cond.privateMethod ({ cls := "DrcScan", name := "isLayer", desc := "(I)Z" } : Jvm.MethodName)) ∈ lw_tbl := lw_at lw_m0 58 rfl
theorem q80 : (Jvm.Cond.instanceMethod ({ cls := "DrcScan", name := "isLayer", desc := "(I)Z" } : Jvm.MethodName)) ∈ lw_all := lw_g (lw_at lw_m0 59 rfl) rfl
theorem q81 : (Jvm.Cond.code ({ cls := "DrcScan", name := "isLayer", desc := "(I)Z" } : Jvm.MethodName) prog_1_method_12_code (2 : Nat) (Option.some Jvm.ClassFile.FieldType.boolean)) ∈ lw_all := lw_g (lw_at lw_m0 60 rfl) rfl
theorem q82 : (Jvm.Cond.methodLink "DrcScan" (42 : Nat) ({ cls := "DrcScan", name := "rowsAt", desc := "(II)I" } : Jvm.MethodName)) ∈ lw_all := lw_g (lw_at lw_m0 61 rfl) rfl
theorem q83 : (Jvm.Cond.privateMethod ({ cls := "DrcScan", name := "rowsAt", desc := "(II)I" } : Jvm.MethodName)) ∈ lw_tbl := lw_at lw_m0 62 rfl
theorem q84 : (Jvm.Cond.instanceMethod ({ cls := "DrcScan", name := "rowsAt", desc := "(II)I" } : Jvm.MethodName)) ∈ lw_all := lw_g (lw_at lw_m0 63 rfl) rfl
theorem q85 : (Jvm.Cond.code ({ cls := "DrcScan", name := "rowsAt", desc := "(II)I" } : Jvm.MethodName) prog_1_method_14_code (5 : Nat) (Option.some Jvm.ClassFile.FieldType.int)) ∈ lw_all := lw_g (lw_at lw_m0 64 rfl) rfl
theorem q87 : (Jvm.Cond.instanceMethod ({ cls := "DrcScan", name := "area", desc := "(III)I" } : Jvm.MethodName)) ∈ lw_all := lw_g (lw_at lw_m0 66 rfl) rfl
theorem q88 : (Jvm.Cond.selects "DrcScan" ({ cls := "DrcScan", name := "area", desc := "(III)I" } : Jvm.MethodName) ({ cls := "DrcScan", name := "area", desc := "(III)I" } : Jvm.MethodName)) ∈ lw_all := lw_g (lw_at lw_m0 67 rfl) rfl
theorem q89 : (Jvm.Cond.code ({ cls := "DrcScan", name := "area", desc := "(III)I" } : Jvm.MethodName) prog_1_method_6_code (6 : Nat) (Option.some Jvm.ClassFile.FieldType.int)) ∈ lw_all := lw_g (lw_at lw_m0 68 rfl) rfl
theorem q90 : (Jvm.Cond.methodLink "DrcScan" (46 : Nat) ({ cls := "DrcScan", name := "sweep", desc := "(III)V" } : Jvm.MethodName)) ∈ lw_all := lw_g (lw_at lw_m0 69 rfl) rfl
theorem q91 : (Jvm.Cond.privateMethod ({ cls := "DrcScan", name := "sweep", desc := "(III)V" } : Jvm.MethodName)) ∈ lw_tbl := lw_at lw_m0 70 rfl
theorem q92 : (Jvm.Cond.instanceMethod ({ cls := "DrcScan", name := "sweep", desc := "(III)V" } : Jvm.MethodName)) ∈ lw_all := lw_g (lw_at lw_m0 71 rfl) rfl
theorem q93 : (Jvm.Cond.code ({ cls := "DrcScan", name := "sweep", desc := "(III)V" } : Jvm.MethodName) prog_1_method_17_code (8 : Nat) (Option.none : Option Jvm.ClassFile.FieldType)) ∈ lw_all := lw_g (lw_at lw_m0 72 rfl) rfl
theorem q94 : (Jvm.Cond.methodLink "DrcScan" (80 : Nat) ({ cls := "DrcScan", name := "linesOf", desc := "(I)I" } : Jvm.MethodName)) ∈ lw_all := lw_g (lw_at lw_m0 73 rfl) rfl
theorem q95 : (Jvm.Cond.privateMethod ({ cls := "DrcScan", name := "linesOf", desc := "(I)I" } : Jvm.MethodName)) ∈ lw_tbl := lw_at lw_m0 74 rfl
theorem q96 : (Jvm.Cond.instanceMethod ({ cls := "DrcScan", name := "linesOf", desc := "(I)I" } : Jvm.MethodName)) ∈ lw_all := lw_g (lw_at lw_m0 75 rfl) rfl
theorem q97 : (Jvm.Cond.code ({ cls := "DrcScan", name := "linesOf", desc := "(I)I" } : Jvm.MethodName) prog_1_method_16_code (4 : Nat) (Option.some Jvm.ClassFile.FieldType.int)) ∈ lw_all := lw_g (lw_at lw_m0 76 rfl) rfl
theorem q98 : (Jvm.Cond.constant "DrcScan" (83 : Nat) (65536 : Int32)) ∈ lw_all := lw_g (lw_at lw_m0 77 rfl) rfl
theorem q99 : (Jvm.Cond.methodLink "DrcScan" (54 : Nat) ({ cls := "DrcScan", name := "widthOf", desc := "(I)I" } : Jvm.MethodName)) ∈ lw_all := lw_g (lw_at lw_m0 78 rfl) rfl
theorem q100 : (Jvm.Cond.privateMethod ({ cls := "DrcScan", name := "widthOf", desc := "(I)I" } : Jvm.MethodName)) ∈ lw_tbl := lw_at lw_m0 79 rfl
theorem q101 : (Jvm.Cond.instanceMethod ({ cls := "DrcScan", name := "widthOf", desc := "(I)I" } : Jvm.MethodName)) ∈ lw_all := lw_g (lw_at lw_m0 80 rfl) rfl
theorem q102 : (Jvm.Cond.code ({ cls := "DrcScan", name := "widthOf", desc := "(I)I" } : Jvm.MethodName) prog_1_method_15_code (2 : Nat) (Option.some Jvm.ClassFile.FieldType.int)) ∈ lw_all := lw_g (lw_at lw_m0 81 rfl) rfl
theorem q103 : (Jvm.Cond.methodLink "DrcScan" (58 : Nat) ({ cls := "DrcScan", name := "bitsIn", desc := "(I)I" } : Jvm.MethodName)) ∈ lw_all := lw_g (lw_at lw_m0 82 rfl) rfl
theorem q104 : (Jvm.Cond.privateMethod ({ cls := "DrcScan", name := "bitsIn", desc := "(I)I" } : Jvm.MethodName)) ∈ lw_tbl := lw_at lw_m0 83 rfl
theorem q105 : (Jvm.Cond.instanceMethod ({ cls := "DrcScan", name := "bitsIn", desc := "(I)I" } : Jvm.MethodName)) ∈ lw_all := lw_g (lw_at lw_m0 84 rfl) rfl
theorem q106 : (Jvm.Cond.code ({ cls := "DrcScan", name := "bitsIn", desc := "(I)I" } : Jvm.MethodName) prog_1_method_13_code (4 : Nat) (Option.some Jvm.ClassFile.FieldType.int)) ∈ lw_all := lw_g (lw_at lw_m0 85 rfl) rfl
theorem q108 : (Jvm.Cond.instanceMethod ({ cls := "DrcScan", name := "outline", desc := "(III)I" } : Jvm.MethodName)) ∈ lw_all := lw_g (lw_at lw_m0 87 rfl) rfl
theorem q109 : (Jvm.Cond.selects "DrcScan" ({ cls := "DrcScan", name := "outline", desc := "(III)I" } : Jvm.MethodName) ({ cls := "DrcScan", name := "outline", desc := "(III)I" } : Jvm.MethodName)) ∈ lw_all := lw_g (lw_at lw_m0 88 rfl) rfl
theorem q110 : (Jvm.Cond.code ({ cls := "DrcScan", name := "outline", desc := "(III)I" } : Jvm.MethodName) prog_1_method_7_code (7 : Nat) (Option.some Jvm.ClassFile.FieldType.int)) ∈ lw_all := lw_g (lw_at lw_m0 89 rfl) rfl
theorem q112 : (Jvm.Cond.instanceMethod ({ cls := "DrcScan", name := "corners", desc := "(III)I" } : Jvm.MethodName)) ∈ lw_all := lw_g (lw_at lw_m0 91 rfl) rfl
theorem q113 : (Jvm.Cond.selects "DrcScan" ({ cls := "DrcScan", name := "corners", desc := "(III)I" } : Jvm.MethodName) ({ cls := "DrcScan", name := "corners", desc := "(III)I" } : Jvm.MethodName)) ∈ lw_all := lw_g (lw_at lw_m0 92 rfl) rfl
theorem q114 : (Jvm.Cond.code ({ cls := "DrcScan", name := "corners", desc := "(III)I" } : Jvm.MethodName) prog_1_method_8_code (11 : Nat) (Option.some Jvm.ClassFile.FieldType.int)) ∈ lw_all := lw_g (lw_at lw_m0 93 rfl) rfl
theorem q116 : (Jvm.Cond.instanceMethod ({ cls := "DrcScan", name := "thin", desc := "(II)I" } : Jvm.MethodName)) ∈ lw_all := lw_g (lw_at lw_m0 95 rfl) rfl
theorem q117 : (Jvm.Cond.selects "DrcScan" ({ cls := "DrcScan", name := "thin", desc := "(II)I" } : Jvm.MethodName) ({ cls := "DrcScan", name := "thin", desc := "(II)I" } : Jvm.MethodName)) ∈ lw_all := lw_g (lw_at lw_m0 96 rfl) rfl
theorem q118 : (Jvm.Cond.code ({ cls := "DrcScan", name := "thin", desc := "(II)I" } : Jvm.MethodName) prog_1_method_9_code (4 : Nat) (Option.some Jvm.ClassFile.FieldType.int)) ∈ lw_all := lw_g (lw_at lw_m0 97 rfl) rfl
theorem q119 : (Jvm.Cond.methodLink "DrcScan" (61 : Nat) ({ cls := "DrcScan", name := "shortRuns", desc := "(IIZ)I" } : Jvm.MethodName)) ∈ lw_all := lw_g (lw_at lw_m0 98 rfl) rfl
theorem q120 : (Jvm.Cond.privateMethod ({ cls := "DrcScan", name := "shortRuns", desc := "(IIZ)I" } : Jvm.MethodName)) ∈ lw_tbl := lw_at lw_m0 99 rfl
theorem q121 : (Jvm.Cond.instanceMethod ({ cls := "DrcScan", name := "shortRuns", desc := "(IIZ)I" } : Jvm.MethodName)) ∈ lw_all := lw_g (lw_at lw_m0 100 rfl) rfl
theorem q122 : (Jvm.Cond.code ({ cls := "DrcScan", name := "shortRuns", desc := "(IIZ)I" } : Jvm.MethodName) prog_1_method_18_code (8 : Nat) (Option.some Jvm.ClassFile.FieldType.int)) ∈ lw_all := lw_g (lw_at lw_m0 101 rfl) rfl
theorem q123 : (Jvm.Cond.methodLink "DrcScan" (65 : Nat) ({ cls := "DrcScan", name := "markShortRows", desc := "(IZ)V" } : Jvm.MethodName)) ∈ lw_all := lw_g (lw_at lw_m0 102 rfl) rfl
theorem q124 : (Jvm.Cond.privateMethod ({ cls := "DrcScan", name := "markShortRows", desc := "(IZ)V" } : Jvm.MethodName)) ∈ lw_tbl := lw_at lw_m0 103 rfl
theorem q125 : (Jvm.Cond.instanceMethod ({ cls := "DrcScan", name := "markShortRows", desc := "(IZ)V" } : Jvm.MethodName)) ∈ lw_all := lw_g (lw_at lw_m0 104 rfl) rfl
theorem q126 : (Jvm.Cond.code ({ cls := "DrcScan", name := "markShortRows", desc := "(IZ)V" } : Jvm.MethodName) prog_1_method_19_code (5 : Nat) (Option.none : Option Jvm.ClassFile.FieldType)) ∈ lw_all := lw_g (lw_at lw_m0 105 rfl) rfl
theorem q127 : (Jvm.Cond.methodLink "DrcScan" (84 : Nat) ({ cls := "DrcScan", name := "markRun", desc := "(IIIZ)I" } : Jvm.MethodName)) ∈ lw_all := lw_g (lw_at lw_m0 106 rfl) rfl
theorem q128 : (Jvm.Cond.privateMethod ({ cls := "DrcScan", name := "markRun", desc := "(IIIZ)I" } : Jvm.MethodName)) ∈ lw_tbl := lw_at lw_m0 107 rfl
theorem q129 : (Jvm.Cond.instanceMethod ({ cls := "DrcScan", name := "markRun", desc := "(IIIZ)I" } : Jvm.MethodName)) ∈ lw_all := lw_g (lw_at lw_m0 108 rfl) rfl
theorem q130 : (Jvm.Cond.code ({ cls := "DrcScan", name := "markRun", desc := "(IIIZ)I" } : Jvm.MethodName) prog_1_method_20_code (9 : Nat) (Option.some Jvm.ClassFile.FieldType.int)) ∈ lw_all := lw_g (lw_at lw_m0 109 rfl) rfl
theorem q131 : (Jvm.Cond.methodLink "DrcScan" (69 : Nat) ({ cls := "DrcScan", name := "markedArea", desc := "()I" } : Jvm.MethodName)) ∈ lw_all := lw_g (lw_at lw_m0 110 rfl) rfl
theorem q132 : (Jvm.Cond.privateMethod ({ cls := "DrcScan", name := "markedArea", desc := "()I" } : Jvm.MethodName)) ∈ lw_tbl := lw_at lw_m0 111 rfl
theorem q133 : (Jvm.Cond.instanceMethod ({ cls := "DrcScan", name := "markedArea", desc := "()I" } : Jvm.MethodName)) ∈ lw_all := lw_g (lw_at lw_m0 112 rfl) rfl
theorem q134 : (Jvm.Cond.code ({ cls := "DrcScan", name := "markedArea", desc := "()I" } : Jvm.MethodName) prog_1_method_21_code (3 : Nat) (Option.some Jvm.ClassFile.FieldType.int)) ∈ lw_all := lw_g (lw_at lw_m0 113 rfl) rfl
theorem q136 : (Jvm.Cond.instanceMethod ({ cls := "DrcScan", name := "gaps", desc := "(II)I" } : Jvm.MethodName)) ∈ lw_all := lw_g (lw_at lw_m0 115 rfl) rfl
theorem q137 : (Jvm.Cond.selects "DrcScan" ({ cls := "DrcScan", name := "gaps", desc := "(II)I" } : Jvm.MethodName) ({ cls := "DrcScan", name := "gaps", desc := "(II)I" } : Jvm.MethodName)) ∈ lw_all := lw_g (lw_at lw_m0 116 rfl) rfl
theorem q138 : (Jvm.Cond.code ({ cls := "DrcScan", name := "gaps", desc := "(II)I" } : Jvm.MethodName) prog_1_method_10_code (4 : Nat) (Option.some Jvm.ClassFile.FieldType.int)) ∈ lw_all := lw_g (lw_at lw_m0 117 rfl) rfl
theorem q139 : (Jvm.Cond.constant "DrcScan" (73 : Nat) (65535 : Int32)) ∈ lw_all := lw_g (lw_at lw_m0 118 rfl) rfl
theorem q141 : (Jvm.Cond.instanceMethod ({ cls := "DrcScan", name := "enclosure", desc := "(II)I" } : Jvm.MethodName)) ∈ lw_all := lw_g (lw_at lw_m0 120 rfl) rfl
theorem q142 : (Jvm.Cond.selects "DrcScan" ({ cls := "DrcScan", name := "enclosure", desc := "(II)I" } : Jvm.MethodName) ({ cls := "DrcScan", name := "enclosure", desc := "(II)I" } : Jvm.MethodName)) ∈ lw_all := lw_g (lw_at lw_m0 121 rfl) rfl
theorem q143 : (Jvm.Cond.code ({ cls := "DrcScan", name := "enclosure", desc := "(II)I" } : Jvm.MethodName) prog_1_method_11_code (4 : Nat) (Option.some Jvm.ClassFile.FieldType.int)) ∈ lw_all := lw_g (lw_at lw_m0 122 rfl) rfl
theorem q144 : (Jvm.Cond.methodLink "DrcScan" (74 : Nat) ({ cls := "DrcScan", name := "isWithin", desc := "(I)Z" } : Jvm.MethodName)) ∈ lw_all := lw_g (lw_at lw_m0 123 rfl) rfl
theorem q145 : (Jvm.Cond.privateMethod ({ cls := "DrcScan", name := "isWithin", desc := "(I)Z" } : Jvm.MethodName)) ∈ lw_tbl := lw_at lw_m0 124 rfl
theorem q146 : (Jvm.Cond.instanceMethod ({ cls := "DrcScan", name := "isWithin", desc := "(I)Z" } : Jvm.MethodName)) ∈ lw_all := lw_g (lw_at lw_m0 125 rfl) rfl
theorem q147 : (Jvm.Cond.code ({ cls := "DrcScan", name := "isWithin", desc := "(I)Z" } : Jvm.MethodName) prog_1_method_22_code (4 : Nat) (Option.some Jvm.ClassFile.FieldType.boolean)) ∈ lw_all := lw_g (lw_at lw_m0 126 rfl) rfl
theorem q148 : (Jvm.Cond.methodLink "DrcScan" (77 : Nat) ({ cls := "DrcScan", name := "widen", desc := "()V" } : Jvm.MethodName)) ∈ lw_all := lw_g (lw_at lw_m0 127 rfl) rfl
theorem q149 : (Jvm.Cond.privateMethod ({ cls := "DrcScan", name := "widen", desc := "()V" } : Jvm.MethodName)) ∈ lw_tbl := lw_at lw_m0 128 rfl
theorem q150 : (Jvm.Cond.instanceMethod ({ cls := "DrcScan", name := "widen", desc := "()V" } : Jvm.MethodName)) ∈ lw_all := lw_g (lw_at lw_m0 129 rfl) rfl
theorem q151 : (Jvm.Cond.code ({ cls := "DrcScan", name := "widen", desc := "()V" } : Jvm.MethodName) prog_1_method_23_code (4 : Nat) (Option.none : Option Jvm.ClassFile.FieldType)) ∈ lw_all := lw_g (lw_at lw_m0 130 rfl) rfl
theorem in_X0 : ∀ w ∈ wsX00, w ∈ lw_all := lw_in wsX00 [41, 43, 45, 47, 49, 51, 53, 55, 57] (by decide +kernel) (by decide +kernel)

/-! DrcScanModel -/
def RX1 : String := "DrcScanModel"
def TX1 : u_T := fun k => match k with
  | 0 => ("DrcScanModel", "count", "[I", false)
  | 1 => ("DrcScanModel", "left", "[I", false)
  | 2 => ("DrcScanModel", "right", "[I", false)
  | 3 => ("DrcScanModel", "bottom", "[I", false)
  | 4 => ("DrcScanModel", "top", "[I", false)
  | _ => ("DrcScanModel", "set", "[Z", false)
def tyX1 : Nat → FieldType := fun k => match k with
  | 0 => .array .int
  | 1 => .array .int
  | 2 => .array .int
  | 3 => .array .int
  | 4 => .array .int
  | _ => .array .boolean
abbrev wsX10 : List Cond := u_ws RX1 TX1 6
theorem nmX1 : ∀ a, a < 6 → ∀ b, b < 6 → a ≠ b → (TX1 a).2.1 ≠ (TX1 b).2.1 := by decide +kernel
theorem tyX1_ok : ∀ k, k < 6 → parseFieldDescriptor (TX1 k).2.2.1 = some (tyX1 k) := by decide +kernel
abbrev cX1_init : ByteArray := prog_3_method_1_code
def yX1_init : MethodName := ⟨RX1, "<init>", "()V"⟩
abbrev cX1_add : ByteArray := prog_3_method_3_code
def yX1_add : MethodName := ⟨RX1, "add", "(III)I"⟩
abbrev cX1_isLayer : ByteArray := prog_3_method_2_code
def yX1_isLayer : MethodName := ⟨RX1, "isLayer", "(I)Z"⟩
abbrev cX1_drop : ByteArray := prog_3_method_4_code
def yX1_drop : MethodName := ⟨RX1, "drop", "(I)I"⟩
abbrev cX1_covers : ByteArray := prog_3_method_6_code
def yX1_covers : MethodName := ⟨RX1, "covers", "(III)Z"⟩
abbrev cX1_has : ByteArray := prog_3_method_5_code
def yX1_has : MethodName := ⟨RX1, "has", "(III)Z"⟩
abbrev cX1_area : ByteArray := prog_3_method_9_code
def yX1_area : MethodName := ⟨RX1, "area", "(III)I"⟩
abbrev cX1_combine : ByteArray := prog_3_method_7_code
def yX1_combine : MethodName := ⟨RX1, "combine", "(III)Z"⟩
abbrev cX1_outline : ByteArray := prog_3_method_10_code
def yX1_outline : MethodName := ⟨RX1, "outline", "(III)I"⟩
abbrev cX1_in : ByteArray := prog_3_method_8_code
def yX1_in : MethodName := ⟨RX1, "in", "(II)Z"⟩
abbrev cX1_corners : ByteArray := prog_3_method_11_code
def yX1_corners : MethodName := ⟨RX1, "corners", "(III)I"⟩
abbrev cX1_thin : ByteArray := prog_3_method_13_code
def yX1_thin : MethodName := ⟨RX1, "thin", "(II)I"⟩
abbrev cX1_run : ByteArray := prog_3_method_12_code
def yX1_run : MethodName := ⟨RX1, "run", "(IIIIZ)I"⟩
abbrev cX1_gaps : ByteArray := prog_3_method_15_code
def yX1_gaps : MethodName := ⟨RX1, "gaps", "(II)I"⟩
abbrev cX1_between : ByteArray := prog_3_method_14_code
def yX1_between : MethodName := ⟨RX1, "between", "(IIIII)Z"⟩
abbrev cX1_enclosure : ByteArray := prog_3_method_18_code
def yX1_enclosure : MethodName := ⟨RX1, "enclosure", "(II)I"⟩
abbrev cX1_encloses : ByteArray := prog_3_method_17_code
def yX1_encloses : MethodName := ⟨RX1, "encloses", "(II)Z"⟩
abbrev cX1_around : ByteArray := prog_3_method_16_code
def yX1_around : MethodName := ⟨RX1, "around", "(III)Z"⟩
theorem q23 : (Jvm.Cond.initialized "DrcScanModel") ∈ lw_all := lw_g (lw_at lw_m0 2 rfl) rfl
theorem q153 : (Jvm.Cond.instantiable "DrcScanModel" (6 : Nat)) ∈ lw_all := lw_g (lw_at lw_m0 132 rfl) rfl
theorem q155 : (Jvm.Cond.instanceMethod ({ cls := "DrcScanModel", name := "<init>", desc := "()V" } : Jvm.MethodName)) ∈ lw_all := lw_g (lw_at lw_m0 134 rfl) rfl
theorem q156 : (Jvm.Cond.code ({ cls := "DrcScanModel", name := "<init>", desc := "()V" } : Jvm.MethodName) prog_3_method_1_code (1 : Nat) (Option.none : Option Jvm.ClassFile.FieldType)) ∈ lw_all := lw_g (lw_at lw_m0 135 rfl) rfl
theorem q157 : (Jvm.Cond.methodLink "DrcScanModel" (1 : Nat) ({ cls := "java/lang/Object", name := "<init>", desc := "()V" } : Jvm.MethodName)) ∈ lw_all := lw_g (lw_at lw_m0 136 rfl) rfl
theorem q158 : (Jvm.Cond.fieldLink "DrcScanModel" (7 : Nat) "DrcScanModel" "count" "[I") ∈ lw_all := lw_g (lw_at lw_m0 137 rfl) rfl
theorem q159 : (Jvm.Cond.fieldLink "DrcScanModel" (13 : Nat) "DrcScanModel" "left" "[I") ∈ lw_all := lw_g (lw_at lw_m0 138 rfl) rfl
theorem q160 : (Jvm.Cond.fieldLink "DrcScanModel" (16 : Nat) "DrcScanModel" "right" "[I") ∈ lw_all := lw_g (lw_at lw_m0 139 rfl) rfl
theorem q161 : (Jvm.Cond.fieldLink "DrcScanModel" (19 : Nat) "DrcScanModel" "bottom" "[I") ∈ lw_all := lw_g (lw_at lw_m0 140 rfl) rfl
theorem q162 : (Jvm.Cond.fieldLink "DrcScanModel" (22 : Nat) "DrcScanModel" "top" "[I") ∈ lw_all := lw_g (lw_at lw_m0 141 rfl) rfl
theorem q163 : (Jvm.Cond.fieldLink "DrcScanModel" (25 : Nat) "DrcScanModel" "set" "[Z") ∈ lw_all := lw_g (lw_at lw_m0 142 rfl) rfl
theorem q164 : (Jvm.Cond.lays "DrcScanModel" "DrcScanModel" "count" "[I") ∈ lw_all := lw_g (lw_at lw_m0 143 rfl) rfl
theorem q165 : (Jvm.Cond.soleField "DrcScanModel" "count") ∈ lw_all := lw_g (lw_at lw_m0 144 rfl) rfl
theorem q166 : (Jvm.Cond.lays "DrcScanModel" "DrcScanModel" "left" "[I") ∈ lw_all := lw_g (lw_at lw_m0 145 rfl) rfl
theorem q167 : (Jvm.Cond.soleField "DrcScanModel" "left") ∈ lw_all := lw_g (lw_at lw_m0 146 rfl) rfl
theorem q168 : (Jvm.Cond.lays "DrcScanModel" "DrcScanModel" "right" "[I") ∈ lw_all := lw_g (lw_at lw_m0 147 rfl) rfl
theorem q169 : (Jvm.Cond.soleField "DrcScanModel" "right") ∈ lw_all := lw_g (lw_at lw_m0 148 rfl) rfl
theorem q170 : (Jvm.Cond.lays "DrcScanModel" "DrcScanModel" "bottom" "[I") ∈ lw_all := lw_g (lw_at lw_m0 149 rfl) rfl
theorem q171 : (Jvm.Cond.soleField "DrcScanModel" "bottom") ∈ lw_all := lw_g (lw_at lw_m0 150 rfl) rfl
theorem q172 : (Jvm.Cond.lays "DrcScanModel" "DrcScanModel" "top" "[I") ∈ lw_all := lw_g (lw_at lw_m0 151 rfl) rfl
theorem q173 : (Jvm.Cond.soleField "DrcScanModel" "top") ∈ lw_all := lw_g (lw_at lw_m0 152 rfl) rfl
theorem q174 : (Jvm.Cond.lays "DrcScanModel" "DrcScanModel" "set" "[Z") ∈ lw_all := lw_g (lw_at lw_m0 153 rfl) rfl
theorem q175 : (Jvm.Cond.soleField "DrcScanModel" "set") ∈ lw_all := lw_g (lw_at lw_m0 154 rfl) rfl
theorem q176 : (Jvm.Cond.superclass "DrcScanModel" "java/lang/Object") ∈ lw_all := lw_g (lw_at lw_m0 155 rfl) rfl
theorem q179 : (Jvm.Cond.instanceMethod ({ cls := "DrcScanModel", name := "add", desc := "(III)I" } : Jvm.MethodName)) ∈ lw_all := lw_g (lw_at lw_m0 158 rfl) rfl
theorem q180 : (Jvm.Cond.selects "DrcScanModel" ({ cls := "DrcScanModel", name := "add", desc := "(III)I" } : Jvm.MethodName) ({ cls := "DrcScanModel", name := "add", desc := "(III)I" } : Jvm.MethodName)) ∈ lw_all := lw_g (lw_at lw_m0 159 rfl) rfl
theorem q181 : (Jvm.Cond.code ({ cls := "DrcScanModel", name := "add", desc := "(III)I" } : Jvm.MethodName) prog_3_method_3_code (5 : Nat) (Option.some Jvm.ClassFile.FieldType.int)) ∈ lw_all := lw_g (lw_at lw_m0 160 rfl) rfl
theorem q182 : (Jvm.Cond.methodLink "DrcScanModel" (29 : Nat) ({ cls := "DrcScanModel", name := "isLayer", desc := "(I)Z" } : Jvm.MethodName)) ∈ lw_all := lw_g (lw_at lw_m0 161 rfl) rfl
theorem q183 : (Jvm.Cond.privateMethod ({ cls := "DrcScanModel", name := "isLayer", desc := "(I)Z" } : Jvm.MethodName)) ∈ lw_tbl := lw_at lw_m0 162 rfl
theorem q184 : (Jvm.Cond.instanceMethod ({ cls := "DrcScanModel", name := "isLayer", desc := "(I)Z" } : Jvm.MethodName)) ∈ lw_all := lw_g (lw_at lw_m0 163 rfl) rfl
theorem q185 : (Jvm.Cond.code ({ cls := "DrcScanModel", name := "isLayer", desc := "(I)Z" } : Jvm.MethodName) prog_3_method_2_code (2 : Nat) (Option.some Jvm.ClassFile.FieldType.boolean)) ∈ lw_all := lw_g (lw_at lw_m0 164 rfl) rfl
theorem q187 : (Jvm.Cond.instanceMethod ({ cls := "DrcScanModel", name := "drop", desc := "(I)I" } : Jvm.MethodName)) ∈ lw_all := lw_g (lw_at lw_m0 166 rfl) rfl
theorem q188 : (Jvm.Cond.selects "DrcScanModel" ({ cls := "DrcScanModel", name := "drop", desc := "(I)I" } : Jvm.MethodName) ({ cls := "DrcScanModel", name := "drop", desc := "(I)I" } : Jvm.MethodName)) ∈ lw_all := lw_g (lw_at lw_m0 167 rfl) rfl
theorem q189 : (Jvm.Cond.code ({ cls := "DrcScanModel", name := "drop", desc := "(I)I" } : Jvm.MethodName) prog_3_method_4_code (3 : Nat) (Option.some Jvm.ClassFile.FieldType.int)) ∈ lw_all := lw_g (lw_at lw_m0 168 rfl) rfl
theorem q191 : (Jvm.Cond.instanceMethod ({ cls := "DrcScanModel", name := "covers", desc := "(III)Z" } : Jvm.MethodName)) ∈ lw_all := lw_g (lw_at lw_m0 170 rfl) rfl
theorem q192 : (Jvm.Cond.selects "DrcScanModel" ({ cls := "DrcScanModel", name := "covers", desc := "(III)Z" } : Jvm.MethodName) ({ cls := "DrcScanModel", name := "covers", desc := "(III)Z" } : Jvm.MethodName)) ∈ lw_all := lw_g (lw_at lw_m0 171 rfl) rfl
theorem q193 : (Jvm.Cond.code ({ cls := "DrcScanModel", name := "covers", desc := "(III)Z" } : Jvm.MethodName) prog_3_method_6_code (4 : Nat) (Option.some Jvm.ClassFile.FieldType.boolean)) ∈ lw_all := lw_g (lw_at lw_m0 172 rfl) rfl
theorem q194 : (Jvm.Cond.methodLink "DrcScanModel" (33 : Nat) ({ cls := "DrcScanModel", name := "has", desc := "(III)Z" } : Jvm.MethodName)) ∈ lw_all := lw_g (lw_at lw_m0 173 rfl) rfl
theorem q195 : (Jvm.Cond.privateMethod ({ cls := "DrcScanModel", name := "has", desc := "(III)Z" } : Jvm.MethodName)) ∈ lw_tbl := lw_at lw_m0 174 rfl
theorem q196 : (Jvm.Cond.instanceMethod ({ cls := "DrcScanModel", name := "has", desc := "(III)Z" } : Jvm.MethodName)) ∈ lw_all := lw_g (lw_at lw_m0 175 rfl) rfl
theorem q197 : (Jvm.Cond.code ({ cls := "DrcScanModel", name := "has", desc := "(III)Z" } : Jvm.MethodName) prog_3_method_5_code (5 : Nat) (Option.some Jvm.ClassFile.FieldType.boolean)) ∈ lw_all := lw_g (lw_at lw_m0 176 rfl) rfl
theorem q199 : (Jvm.Cond.instanceMethod ({ cls := "DrcScanModel", name := "area", desc := "(III)I" } : Jvm.MethodName)) ∈ lw_all := lw_g (lw_at lw_m0 178 rfl) rfl
theorem q200 : (Jvm.Cond.selects "DrcScanModel" ({ cls := "DrcScanModel", name := "area", desc := "(III)I" } : Jvm.MethodName) ({ cls := "DrcScanModel", name := "area", desc := "(III)I" } : Jvm.MethodName)) ∈ lw_all := lw_g (lw_at lw_m0 179 rfl) rfl
theorem q201 : (Jvm.Cond.code ({ cls := "DrcScanModel", name := "area", desc := "(III)I" } : Jvm.MethodName) prog_3_method_9_code (6 : Nat) (Option.some Jvm.ClassFile.FieldType.int)) ∈ lw_all := lw_g (lw_at lw_m0 180 rfl) rfl
theorem q202 : (Jvm.Cond.methodLink "DrcScanModel" (37 : Nat) ({ cls := "DrcScanModel", name := "combine", desc := "(III)Z" } : Jvm.MethodName)) ∈ lw_all := lw_g (lw_at lw_m0 181 rfl) rfl
theorem q203 : (Jvm.Cond.privateMethod ({ cls := "DrcScanModel", name := "combine", desc := "(III)Z" } : Jvm.MethodName)) ∈ lw_tbl := lw_at lw_m0 182 rfl
theorem q204 : (Jvm.Cond.instanceMethod ({ cls := "DrcScanModel", name := "combine", desc := "(III)Z" } : Jvm.MethodName)) ∈ lw_all := lw_g (lw_at lw_m0 183 rfl) rfl
theorem q205 : (Jvm.Cond.code ({ cls := "DrcScanModel", name := "combine", desc := "(III)Z" } : Jvm.MethodName) prog_3_method_7_code (7 : Nat) (Option.some Jvm.ClassFile.FieldType.boolean)) ∈ lw_all := lw_g (lw_at lw_m0 184 rfl) rfl
theorem q207 : (Jvm.Cond.instanceMethod ({ cls := "DrcScanModel", name := "outline", desc := "(III)I" } : Jvm.MethodName)) ∈ lw_all := lw_g (lw_at lw_m0 186 rfl) rfl
theorem q208 : (Jvm.Cond.selects "DrcScanModel" ({ cls := "DrcScanModel", name := "outline", desc := "(III)I" } : Jvm.MethodName) ({ cls := "DrcScanModel", name := "outline", desc := "(III)I" } : Jvm.MethodName)) ∈ lw_all := lw_g (lw_at lw_m0 187 rfl) rfl
theorem q209 : (Jvm.Cond.code ({ cls := "DrcScanModel", name := "outline", desc := "(III)I" } : Jvm.MethodName) prog_3_method_10_code (7 : Nat) (Option.some Jvm.ClassFile.FieldType.int)) ∈ lw_all := lw_g (lw_at lw_m0 188 rfl) rfl
theorem q210 : (Jvm.Cond.methodLink "DrcScanModel" (40 : Nat) ({ cls := "DrcScanModel", name := "in", desc := "(II)Z" } : Jvm.MethodName)) ∈ lw_all := lw_g (lw_at lw_m0 189 rfl) rfl
theorem q211 : (Jvm.Cond.privateMethod ({ cls := "DrcScanModel", name := "in", desc := "(II)Z" } : Jvm.MethodName)) ∈ lw_tbl := lw_at lw_m0 190 rfl
theorem q212 : (Jvm.Cond.instanceMethod ({ cls := "DrcScanModel", name := "in", desc := "(II)Z" } : Jvm.MethodName)) ∈ lw_all := lw_g (lw_at lw_m0 191 rfl) rfl
theorem q213 : (Jvm.Cond.code ({ cls := "DrcScanModel", name := "in", desc := "(II)Z" } : Jvm.MethodName) prog_3_method_8_code (3 : Nat) (Option.some Jvm.ClassFile.FieldType.boolean)) ∈ lw_all := lw_g (lw_at lw_m0 192 rfl) rfl
theorem q215 : (Jvm.Cond.instanceMethod ({ cls := "DrcScanModel", name := "corners", desc := "(III)I" } : Jvm.MethodName)) ∈ lw_all := lw_g (lw_at lw_m0 194 rfl) rfl
theorem q216 : (Jvm.Cond.selects "DrcScanModel" ({ cls := "DrcScanModel", name := "corners", desc := "(III)I" } : Jvm.MethodName) ({ cls := "DrcScanModel", name := "corners", desc := "(III)I" } : Jvm.MethodName)) ∈ lw_all := lw_g (lw_at lw_m0 195 rfl) rfl
theorem q217 : (Jvm.Cond.code ({ cls := "DrcScanModel", name := "corners", desc := "(III)I" } : Jvm.MethodName) prog_3_method_11_code (11 : Nat) (Option.some Jvm.ClassFile.FieldType.int)) ∈ lw_all := lw_g (lw_at lw_m0 196 rfl) rfl
theorem q219 : (Jvm.Cond.instanceMethod ({ cls := "DrcScanModel", name := "thin", desc := "(II)I" } : Jvm.MethodName)) ∈ lw_all := lw_g (lw_at lw_m0 198 rfl) rfl
theorem q220 : (Jvm.Cond.selects "DrcScanModel" ({ cls := "DrcScanModel", name := "thin", desc := "(II)I" } : Jvm.MethodName) ({ cls := "DrcScanModel", name := "thin", desc := "(II)I" } : Jvm.MethodName)) ∈ lw_all := lw_g (lw_at lw_m0 199 rfl) rfl
theorem q221 : (Jvm.Cond.code ({ cls := "DrcScanModel", name := "thin", desc := "(II)I" } : Jvm.MethodName) prog_3_method_13_code (8 : Nat) (Option.some Jvm.ClassFile.FieldType.int)) ∈ lw_all := lw_g (lw_at lw_m0 200 rfl) rfl
theorem q222 : (Jvm.Cond.methodLink "DrcScanModel" (44 : Nat) ({ cls := "DrcScanModel", name := "run", desc := "(IIIIZ)I" } : Jvm.MethodName)) ∈ lw_all := lw_g (lw_at lw_m0 201 rfl) rfl
theorem q223 : (Jvm.Cond.privateMethod ({ cls := "DrcScanModel", name := "run", desc := "(IIIIZ)I" } : Jvm.MethodName)) ∈ lw_tbl := lw_at lw_m0 202 rfl
theorem q224 : (Jvm.Cond.instanceMethod ({ cls := "DrcScanModel", name := "run", desc := "(IIIIZ)I" } : Jvm.MethodName)) ∈ lw_all := lw_g (lw_at lw_m0 203 rfl) rfl
theorem q225 : (Jvm.Cond.code ({ cls := "DrcScanModel", name := "run", desc := "(IIIIZ)I" } : Jvm.MethodName) prog_3_method_12_code (10 : Nat) (Option.some Jvm.ClassFile.FieldType.int)) ∈ lw_all := lw_g (lw_at lw_m0 204 rfl) rfl
theorem q227 : (Jvm.Cond.instanceMethod ({ cls := "DrcScanModel", name := "gaps", desc := "(II)I" } : Jvm.MethodName)) ∈ lw_all := lw_g (lw_at lw_m0 206 rfl) rfl
theorem q228 : (Jvm.Cond.selects "DrcScanModel" ({ cls := "DrcScanModel", name := "gaps", desc := "(II)I" } : Jvm.MethodName) ({ cls := "DrcScanModel", name := "gaps", desc := "(II)I" } : Jvm.MethodName)) ∈ lw_all := lw_g (lw_at lw_m0 207 rfl) rfl
theorem q229 : (Jvm.Cond.code ({ cls := "DrcScanModel", name := "gaps", desc := "(II)I" } : Jvm.MethodName) prog_3_method_15_code (6 : Nat) (Option.some Jvm.ClassFile.FieldType.int)) ∈ lw_all := lw_g (lw_at lw_m0 208 rfl) rfl
theorem q230 : (Jvm.Cond.methodLink "DrcScanModel" (48 : Nat) ({ cls := "DrcScanModel", name := "between", desc := "(IIIII)Z" } : Jvm.MethodName)) ∈ lw_all := lw_g (lw_at lw_m0 209 rfl) rfl
theorem q231 : (Jvm.Cond.privateMethod ({ cls := "DrcScanModel", name := "between", desc := "(IIIII)Z" } : Jvm.MethodName)) ∈ lw_tbl := lw_at lw_m0 210 rfl
theorem q232 : (Jvm.Cond.instanceMethod ({ cls := "DrcScanModel", name := "between", desc := "(IIIII)Z" } : Jvm.MethodName)) ∈ lw_all := lw_g (lw_at lw_m0 211 rfl) rfl
theorem q233 : (Jvm.Cond.code ({ cls := "DrcScanModel", name := "between", desc := "(IIIII)Z" } : Jvm.MethodName) prog_3_method_14_code (8 : Nat) (Option.some Jvm.ClassFile.FieldType.boolean)) ∈ lw_all := lw_g (lw_at lw_m0 212 rfl) rfl
theorem q235 : (Jvm.Cond.instanceMethod ({ cls := "DrcScanModel", name := "enclosure", desc := "(II)I" } : Jvm.MethodName)) ∈ lw_all := lw_g (lw_at lw_m0 214 rfl) rfl
theorem q236 : (Jvm.Cond.selects "DrcScanModel" ({ cls := "DrcScanModel", name := "enclosure", desc := "(II)I" } : Jvm.MethodName) ({ cls := "DrcScanModel", name := "enclosure", desc := "(II)I" } : Jvm.MethodName)) ∈ lw_all := lw_g (lw_at lw_m0 215 rfl) rfl
theorem q237 : (Jvm.Cond.code ({ cls := "DrcScanModel", name := "enclosure", desc := "(II)I" } : Jvm.MethodName) prog_3_method_18_code (4 : Nat) (Option.some Jvm.ClassFile.FieldType.int)) ∈ lw_all := lw_g (lw_at lw_m0 216 rfl) rfl
theorem q238 : (Jvm.Cond.methodLink "DrcScanModel" (55 : Nat) ({ cls := "DrcScanModel", name := "encloses", desc := "(II)Z" } : Jvm.MethodName)) ∈ lw_all := lw_g (lw_at lw_m0 217 rfl) rfl
theorem q239 : (Jvm.Cond.privateMethod ({ cls := "DrcScanModel", name := "encloses", desc := "(II)Z" } : Jvm.MethodName)) ∈ lw_tbl := lw_at lw_m0 218 rfl
theorem q240 : (Jvm.Cond.instanceMethod ({ cls := "DrcScanModel", name := "encloses", desc := "(II)Z" } : Jvm.MethodName)) ∈ lw_all := lw_g (lw_at lw_m0 219 rfl) rfl
theorem q241 : (Jvm.Cond.code ({ cls := "DrcScanModel", name := "encloses", desc := "(II)Z" } : Jvm.MethodName) prog_3_method_17_code (4 : Nat) (Option.some Jvm.ClassFile.FieldType.boolean)) ∈ lw_all := lw_g (lw_at lw_m0 220 rfl) rfl
theorem q242 : (Jvm.Cond.methodLink "DrcScanModel" (52 : Nat) ({ cls := "DrcScanModel", name := "around", desc := "(III)Z" } : Jvm.MethodName)) ∈ lw_all := lw_g (lw_at lw_m0 221 rfl) rfl
theorem q243 : (Jvm.Cond.privateMethod ({ cls := "DrcScanModel", name := "around", desc := "(III)Z" } : Jvm.MethodName)) ∈ lw_tbl := lw_at lw_m0 222 rfl
theorem q244 : (Jvm.Cond.instanceMethod ({ cls := "DrcScanModel", name := "around", desc := "(III)Z" } : Jvm.MethodName)) ∈ lw_all := lw_g (lw_at lw_m0 223 rfl) rfl
theorem q245 : (Jvm.Cond.code ({ cls := "DrcScanModel", name := "around", desc := "(III)Z" } : Jvm.MethodName) prog_3_method_16_code (6 : Nat) (Option.some Jvm.ClassFile.FieldType.boolean)) ∈ lw_all := lw_g (lw_at lw_m0 224 rfl) rfl
theorem in_X1 : ∀ w ∈ wsX10, w ∈ lw_all := lw_in wsX10 [164, 166, 168, 170, 172, 174] (by decide +kernel) (by decide +kernel)

/-! java/lang/Object -/
def RJ0 : String := "java/lang/Object"
abbrev cJ0_init : ByteArray := object_method_1_code
def yJ0_init : MethodName := ⟨RJ0, "<init>", "()V"⟩
theorem q30 : (Jvm.Cond.instanceMethod ({ cls := "java/lang/Object", name := "<init>", desc := "()V" } : Jvm.MethodName)) ∈ lw_all := lw_g (lw_at lw_m0 9 rfl) rfl
theorem q31 : (Jvm.Cond.code ({ cls := "java/lang/Object", name := "<init>", desc := "()V" } : Jvm.MethodName) object_method_1_code (1 : Nat) (Option.none : Option Jvm.ClassFile.FieldType)) ∈ lw_all := lw_g (lw_at lw_m0 10 rfl) rfl
theorem dJ0_init_0 : decode cJ0_init 0 = .ok (.return_, 1) := by decide +kernel
/-! the law's own entry -/
abbrev cL_law : ByteArray := code

theorem q60 : (Jvm.Cond.arrayClass Jvm.ClassFile.FieldType.byte) ∈ lw_all := lw_g (lw_at lw_m0 39 rfl) rfl
theorem q61 : (Jvm.Cond.arrayClass Jvm.ClassFile.FieldType.int) ∈ lw_all := lw_g (lw_at lw_m0 40 rfl) rfl
theorem q177 : (Jvm.Cond.arrayClass Jvm.ClassFile.FieldType.boolean) ∈ lw_all := lw_g (lw_at lw_m0 156 rfl) rfl

theorem q21 : (Jvm.Cond.initialized "DrcScanLaw") ∈ lw_all := lw_g (lw_at lw_m0 0 rfl) rfl
theorem q24 : (Jvm.Cond.classLink "DrcScanLaw" (7 : Nat) "DrcScan") ∈ lw_all := lw_g (lw_at lw_m0 3 rfl) rfl
theorem q26 : (Jvm.Cond.methodLink "DrcScanLaw" (9 : Nat) ({ cls := "DrcScan", name := "<init>", desc := "()V" } : Jvm.MethodName)) ∈ lw_all := lw_g (lw_at lw_m0 5 rfl) rfl
theorem q62 : (Jvm.Cond.methodLink "DrcScanLaw" (13 : Nat) ({ cls := "DrcScan", name := "add", desc := "(III)I" } : Jvm.MethodName)) ∈ lw_all := lw_g (lw_at lw_m0 41 rfl) rfl
theorem q70 : (Jvm.Cond.methodLink "DrcScanLaw" (18 : Nat) ({ cls := "DrcScan", name := "drop", desc := "(I)I" } : Jvm.MethodName)) ∈ lw_all := lw_g (lw_at lw_m0 49 rfl) rfl
theorem q74 : (Jvm.Cond.methodLink "DrcScanLaw" (23 : Nat) ({ cls := "DrcScan", name := "covers", desc := "(III)Z" } : Jvm.MethodName)) ∈ lw_all := lw_g (lw_at lw_m0 53 rfl) rfl
theorem q86 : (Jvm.Cond.methodLink "DrcScanLaw" (28 : Nat) ({ cls := "DrcScan", name := "area", desc := "(III)I" } : Jvm.MethodName)) ∈ lw_all := lw_g (lw_at lw_m0 65 rfl) rfl
theorem q107 : (Jvm.Cond.methodLink "DrcScanLaw" (32 : Nat) ({ cls := "DrcScan", name := "outline", desc := "(III)I" } : Jvm.MethodName)) ∈ lw_all := lw_g (lw_at lw_m0 86 rfl) rfl
theorem q111 : (Jvm.Cond.methodLink "DrcScanLaw" (36 : Nat) ({ cls := "DrcScan", name := "corners", desc := "(III)I" } : Jvm.MethodName)) ∈ lw_all := lw_g (lw_at lw_m0 90 rfl) rfl
theorem q115 : (Jvm.Cond.methodLink "DrcScanLaw" (40 : Nat) ({ cls := "DrcScan", name := "thin", desc := "(II)I" } : Jvm.MethodName)) ∈ lw_all := lw_g (lw_at lw_m0 94 rfl) rfl
theorem q135 : (Jvm.Cond.methodLink "DrcScanLaw" (45 : Nat) ({ cls := "DrcScan", name := "gaps", desc := "(II)I" } : Jvm.MethodName)) ∈ lw_all := lw_g (lw_at lw_m0 114 rfl) rfl
theorem q140 : (Jvm.Cond.methodLink "DrcScanLaw" (49 : Nat) ({ cls := "DrcScan", name := "enclosure", desc := "(II)I" } : Jvm.MethodName)) ∈ lw_all := lw_g (lw_at lw_m0 119 rfl) rfl
theorem q152 : (Jvm.Cond.classLink "DrcScanLaw" (10 : Nat) "DrcScanModel") ∈ lw_all := lw_g (lw_at lw_m0 131 rfl) rfl
theorem q154 : (Jvm.Cond.methodLink "DrcScanLaw" (12 : Nat) ({ cls := "DrcScanModel", name := "<init>", desc := "()V" } : Jvm.MethodName)) ∈ lw_all := lw_g (lw_at lw_m0 133 rfl) rfl
theorem q178 : (Jvm.Cond.methodLink "DrcScanLaw" (17 : Nat) ({ cls := "DrcScanModel", name := "add", desc := "(III)I" } : Jvm.MethodName)) ∈ lw_all := lw_g (lw_at lw_m0 157 rfl) rfl
theorem q186 : (Jvm.Cond.methodLink "DrcScanLaw" (22 : Nat) ({ cls := "DrcScanModel", name := "drop", desc := "(I)I" } : Jvm.MethodName)) ∈ lw_all := lw_g (lw_at lw_m0 165 rfl) rfl
theorem q190 : (Jvm.Cond.methodLink "DrcScanLaw" (27 : Nat) ({ cls := "DrcScanModel", name := "covers", desc := "(III)Z" } : Jvm.MethodName)) ∈ lw_all := lw_g (lw_at lw_m0 169 rfl) rfl
theorem q198 : (Jvm.Cond.methodLink "DrcScanLaw" (31 : Nat) ({ cls := "DrcScanModel", name := "area", desc := "(III)I" } : Jvm.MethodName)) ∈ lw_all := lw_g (lw_at lw_m0 177 rfl) rfl
theorem q206 : (Jvm.Cond.methodLink "DrcScanLaw" (35 : Nat) ({ cls := "DrcScanModel", name := "outline", desc := "(III)I" } : Jvm.MethodName)) ∈ lw_all := lw_g (lw_at lw_m0 185 rfl) rfl
theorem q214 : (Jvm.Cond.methodLink "DrcScanLaw" (39 : Nat) ({ cls := "DrcScanModel", name := "corners", desc := "(III)I" } : Jvm.MethodName)) ∈ lw_all := lw_g (lw_at lw_m0 193 rfl) rfl
theorem q218 : (Jvm.Cond.methodLink "DrcScanLaw" (44 : Nat) ({ cls := "DrcScanModel", name := "thin", desc := "(II)I" } : Jvm.MethodName)) ∈ lw_all := lw_g (lw_at lw_m0 197 rfl) rfl
theorem q226 : (Jvm.Cond.methodLink "DrcScanLaw" (48 : Nat) ({ cls := "DrcScanModel", name := "gaps", desc := "(II)I" } : Jvm.MethodName)) ∈ lw_all := lw_g (lw_at lw_m0 205 rfl) rfl
theorem q234 : (Jvm.Cond.methodLink "DrcScanLaw" (52 : Nat) ({ cls := "DrcScanModel", name := "enclosure", desc := "(II)I" } : Jvm.MethodName)) ∈ lw_all := lw_g (lw_at lw_m0 213 rfl) rfl
end
section
set_option maxRecDepth 100000
theorem dX0_init_0 : decode cX0_init 0 = .ok (.aload_n 0, 1) := by decide +kernel
theorem dX0_init_1 : decode cX0_init 1 = .ok (.invokespecial 1, 3) := by decide +kernel
theorem dX0_init_4 : decode cX0_init 4 = .ok (.aload_n 0, 1) := by decide +kernel
theorem dX0_init_5 : decode cX0_init 5 = .ok (.iconst 3, 1) := by decide +kernel
theorem dX0_init_6 : decode cX0_init 6 = .ok (.newarray .byte, 2) := by decide +kernel
theorem dX0_init_8 : decode cX0_init 8 = .ok (.putfield 7, 3) := by decide +kernel
theorem dX0_init_11 : decode cX0_init 11 = .ok (.aload_n 0, 1) := by decide +kernel
theorem dX0_init_12 : decode cX0_init 12 = .ok (.bipush 30, 2) := by decide +kernel
theorem dX0_init_14 : decode cX0_init 14 = .ok (.newarray .byte, 2) := by decide +kernel
theorem dX0_init_16 : decode cX0_init 16 = .ok (.putfield 13, 3) := by decide +kernel
theorem dX0_init_19 : decode cX0_init 19 = .ok (.aload_n 0, 1) := by decide +kernel
theorem dX0_init_20 : decode cX0_init 20 = .ok (.bipush 30, 2) := by decide +kernel
theorem dX0_init_22 : decode cX0_init 22 = .ok (.newarray .byte, 2) := by decide +kernel
theorem dX0_init_24 : decode cX0_init 24 = .ok (.putfield 16, 3) := by decide +kernel
theorem dX0_init_27 : decode cX0_init 27 = .ok (.aload_n 0, 1) := by decide +kernel
theorem dX0_init_28 : decode cX0_init 28 = .ok (.bipush 30, 2) := by decide +kernel
theorem dX0_init_30 : decode cX0_init 30 = .ok (.newarray .int, 2) := by decide +kernel
theorem dX0_init_32 : decode cX0_init 32 = .ok (.putfield 19, 3) := by decide +kernel
theorem dX0_init_35 : decode cX0_init 35 = .ok (.aload_n 0, 1) := by decide +kernel
theorem dX0_init_36 : decode cX0_init 36 = .ok (.bipush 18, 2) := by decide +kernel
theorem dX0_init_38 : decode cX0_init 38 = .ok (.newarray .byte, 2) := by decide +kernel
theorem dX0_init_40 : decode cX0_init 40 = .ok (.putfield 23, 3) := by decide +kernel
theorem dX0_init_43 : decode cX0_init 43 = .ok (.aload_n 0, 1) := by decide +kernel
theorem dX0_init_44 : decode cX0_init 44 = .ok (.bipush 17, 2) := by decide +kernel
theorem dX0_init_46 : decode cX0_init 46 = .ok (.newarray .int, 2) := by decide +kernel
theorem dX0_init_48 : decode cX0_init 48 = .ok (.putfield 26, 3) := by decide +kernel
theorem dX0_init_51 : decode cX0_init 51 = .ok (.aload_n 0, 1) := by decide +kernel
theorem dX0_init_52 : decode cX0_init 52 = .ok (.bipush 17, 2) := by decide +kernel
theorem dX0_init_54 : decode cX0_init 54 = .ok (.newarray .int, 2) := by decide +kernel
theorem dX0_init_56 : decode cX0_init 56 = .ok (.putfield 29, 3) := by decide +kernel
theorem dX0_init_59 : decode cX0_init 59 = .ok (.aload_n 0, 1) := by decide +kernel
theorem dX0_init_60 : decode cX0_init 60 = .ok (.bipush 16, 2) := by decide +kernel
theorem dX0_init_62 : decode cX0_init 62 = .ok (.newarray .int, 2) := by decide +kernel
theorem dX0_init_64 : decode cX0_init 64 = .ok (.putfield 32, 3) := by decide +kernel
theorem dX0_init_67 : decode cX0_init 67 = .ok (.return_, 1) := by decide +kernel
theorem dX0_add_0 : decode cX0_add 0 = .ok (.iload_n 1, 1) := by decide +kernel
theorem dX0_add_1 : decode cX0_add 1 = .ok (.ifCond .lt 24, 3) := by decide +kernel
theorem dX0_add_4 : decode cX0_add 4 = .ok (.iload_n 1, 1) := by decide +kernel
theorem dX0_add_5 : decode cX0_add 5 = .ok (.iconst 2, 1) := by decide +kernel
theorem dX0_add_6 : decode cX0_add 6 = .ok (.if_icmp .gt 19, 3) := by decide +kernel
theorem dX0_add_9 : decode cX0_add 9 = .ok (.aload_n 0, 1) := by decide +kernel
theorem dX0_add_10 : decode cX0_add 10 = .ok (.iload_n 2, 1) := by decide +kernel
theorem dX0_add_11 : decode cX0_add 11 = .ok (.invokevirtual 35, 3) := by decide +kernel
theorem dX0_add_14 : decode cX0_add 14 = .ok (.ifCond .eq 11, 3) := by decide +kernel
theorem dX0_add_17 : decode cX0_add 17 = .ok (.aload_n 0, 1) := by decide +kernel
theorem dX0_add_18 : decode cX0_add 18 = .ok (.iload_n 3, 1) := by decide +kernel
theorem dX0_add_19 : decode cX0_add 19 = .ok (.invokevirtual 35, 3) := by decide +kernel
theorem dX0_add_22 : decode cX0_add 22 = .ok (.ifCond .ne 6, 3) := by decide +kernel
theorem dX0_add_25 : decode cX0_add 25 = .ok (.bipush (-2), 2) := by decide +kernel
theorem dX0_add_27 : decode cX0_add 27 = .ok (.ireturn, 1) := by decide +kernel
theorem dX0_add_28 : decode cX0_add 28 = .ok (.aload_n 0, 1) := by decide +kernel
theorem dX0_add_29 : decode cX0_add 29 = .ok (.getfield 7, 3) := by decide +kernel
theorem dX0_add_32 : decode cX0_add 32 = .ok (.iload_n 1, 1) := by decide +kernel
theorem dX0_add_33 : decode cX0_add 33 = .ok (.baload, 1) := by decide +kernel
theorem dX0_add_34 : decode cX0_add 34 = .ok (.bipush 10, 2) := by decide +kernel
theorem dX0_add_36 : decode cX0_add 36 = .ok (.if_icmp .lt 6, 3) := by decide +kernel
theorem dX0_add_39 : decode cX0_add 39 = .ok (.bipush (-3), 2) := by decide +kernel
theorem dX0_add_41 : decode cX0_add 41 = .ok (.ireturn, 1) := by decide +kernel
theorem dX0_add_42 : decode cX0_add 42 = .ok (.bipush 10, 2) := by decide +kernel
theorem dX0_add_44 : decode cX0_add 44 = .ok (.iload_n 1, 1) := by decide +kernel
theorem dX0_add_45 : decode cX0_add 45 = .ok (.imul, 1) := by decide +kernel
theorem dX0_add_46 : decode cX0_add 46 = .ok (.aload_n 0, 1) := by decide +kernel
theorem dX0_add_47 : decode cX0_add 47 = .ok (.getfield 7, 3) := by decide +kernel
theorem dX0_add_50 : decode cX0_add 50 = .ok (.iload_n 1, 1) := by decide +kernel
theorem dX0_add_51 : decode cX0_add 51 = .ok (.baload, 1) := by decide +kernel
theorem dX0_add_52 : decode cX0_add 52 = .ok (.iadd, 1) := by decide +kernel
theorem dX0_add_53 : decode cX0_add 53 = .ok (.istore 4, 2) := by decide +kernel
theorem dX0_add_55 : decode cX0_add 55 = .ok (.aload_n 0, 1) := by decide +kernel
theorem dX0_add_56 : decode cX0_add 56 = .ok (.getfield 13, 3) := by decide +kernel
theorem dX0_add_59 : decode cX0_add 59 = .ok (.iload 4, 2) := by decide +kernel
theorem dX0_add_61 : decode cX0_add 61 = .ok (.iload_n 2, 1) := by decide +kernel
theorem dX0_add_62 : decode cX0_add 62 = .ok (.iconst 5, 1) := by decide +kernel
theorem dX0_add_63 : decode cX0_add 63 = .ok (.ishr, 1) := by decide +kernel
theorem dX0_add_64 : decode cX0_add 64 = .ok (.i2b, 1) := by decide +kernel
theorem dX0_add_65 : decode cX0_add 65 = .ok (.bastore, 1) := by decide +kernel
theorem dX0_add_66 : decode cX0_add 66 = .ok (.aload_n 0, 1) := by decide +kernel
theorem dX0_add_67 : decode cX0_add 67 = .ok (.getfield 16, 3) := by decide +kernel
theorem dX0_add_70 : decode cX0_add 70 = .ok (.iload 4, 2) := by decide +kernel
theorem dX0_add_72 : decode cX0_add 72 = .ok (.iload_n 2, 1) := by decide +kernel
theorem dX0_add_73 : decode cX0_add 73 = .ok (.bipush 31, 2) := by decide +kernel
theorem dX0_add_75 : decode cX0_add 75 = .ok (.iand, 1) := by decide +kernel
theorem dX0_add_76 : decode cX0_add 76 = .ok (.i2b, 1) := by decide +kernel
theorem dX0_add_77 : decode cX0_add 77 = .ok (.bastore, 1) := by decide +kernel
theorem dX0_add_78 : decode cX0_add 78 = .ok (.aload_n 0, 1) := by decide +kernel
theorem dX0_add_79 : decode cX0_add 79 = .ok (.getfield 19, 3) := by decide +kernel
theorem dX0_add_82 : decode cX0_add 82 = .ok (.iload 4, 2) := by decide +kernel
theorem dX0_add_84 : decode cX0_add 84 = .ok (.iconst 1, 1) := by decide +kernel
theorem dX0_add_85 : decode cX0_add 85 = .ok (.iload_n 3, 1) := by decide +kernel
theorem dX0_add_86 : decode cX0_add 86 = .ok (.bipush 31, 2) := by decide +kernel
theorem dX0_add_88 : decode cX0_add 88 = .ok (.iand, 1) := by decide +kernel
theorem dX0_add_89 : decode cX0_add 89 = .ok (.ishl, 1) := by decide +kernel
theorem dX0_add_90 : decode cX0_add 90 = .ok (.iconst 1, 1) := by decide +kernel
theorem dX0_add_91 : decode cX0_add 91 = .ok (.iload_n 3, 1) := by decide +kernel
theorem dX0_add_92 : decode cX0_add 92 = .ok (.iconst 5, 1) := by decide +kernel
theorem dX0_add_93 : decode cX0_add 93 = .ok (.ishr, 1) := by decide +kernel
theorem dX0_add_94 : decode cX0_add 94 = .ok (.ishl, 1) := by decide +kernel
theorem dX0_add_95 : decode cX0_add 95 = .ok (.isub, 1) := by decide +kernel
theorem dX0_add_96 : decode cX0_add 96 = .ok (.iastore, 1) := by decide +kernel
theorem dX0_add_97 : decode cX0_add 97 = .ok (.aload_n 0, 1) := by decide +kernel
theorem dX0_add_98 : decode cX0_add 98 = .ok (.getfield 7, 3) := by decide +kernel
theorem dX0_add_101 : decode cX0_add 101 = .ok (.iload_n 1, 1) := by decide +kernel
theorem dX0_add_102 : decode cX0_add 102 = .ok (.dup2, 1) := by decide +kernel
theorem dX0_add_103 : decode cX0_add 103 = .ok (.baload, 1) := by decide +kernel
theorem dX0_add_104 : decode cX0_add 104 = .ok (.iconst 1, 1) := by decide +kernel
theorem dX0_add_105 : decode cX0_add 105 = .ok (.iadd, 1) := by decide +kernel
theorem dX0_add_106 : decode cX0_add 106 = .ok (.i2b, 1) := by decide +kernel
theorem dX0_add_107 : decode cX0_add 107 = .ok (.bastore, 1) := by decide +kernel
theorem dX0_add_108 : decode cX0_add 108 = .ok (.aload_n 0, 1) := by decide +kernel
theorem dX0_add_109 : decode cX0_add 109 = .ok (.getfield 7, 3) := by decide +kernel
theorem dX0_add_112 : decode cX0_add 112 = .ok (.iload_n 1, 1) := by decide +kernel
theorem dX0_add_113 : decode cX0_add 113 = .ok (.baload, 1) := by decide +kernel
theorem dX0_add_114 : decode cX0_add 114 = .ok (.ireturn, 1) := by decide +kernel
theorem dX0_isSpan_0 : decode cX0_isSpan 0 = .ok (.iload_n 1, 1) := by decide +kernel
theorem dX0_isSpan_1 : decode cX0_isSpan 1 = .ok (.ifCond .ge 5, 3) := by decide +kernel
theorem dX0_isSpan_4 : decode cX0_isSpan 4 = .ok (.iconst 0, 1) := by decide +kernel
theorem dX0_isSpan_5 : decode cX0_isSpan 5 = .ok (.ireturn, 1) := by decide +kernel
theorem dX0_isSpan_6 : decode cX0_isSpan 6 = .ok (.iload_n 1, 1) := by decide +kernel
theorem dX0_isSpan_7 : decode cX0_isSpan 7 = .ok (.iconst 5, 1) := by decide +kernel
theorem dX0_isSpan_8 : decode cX0_isSpan 8 = .ok (.ishr, 1) := by decide +kernel
theorem dX0_isSpan_9 : decode cX0_isSpan 9 = .ok (.istore_n 2, 1) := by decide +kernel
theorem dX0_isSpan_10 : decode cX0_isSpan 10 = .ok (.iload_n 1, 1) := by decide +kernel
theorem dX0_isSpan_11 : decode cX0_isSpan 11 = .ok (.bipush 31, 2) := by decide +kernel
theorem dX0_isSpan_13 : decode cX0_isSpan 13 = .ok (.iand, 1) := by decide +kernel
theorem dX0_isSpan_14 : decode cX0_isSpan 14 = .ok (.istore_n 3, 1) := by decide +kernel
theorem dX0_isSpan_15 : decode cX0_isSpan 15 = .ok (.iload_n 2, 1) := by decide +kernel
theorem dX0_isSpan_16 : decode cX0_isSpan 16 = .ok (.iload_n 3, 1) := by decide +kernel
theorem dX0_isSpan_17 : decode cX0_isSpan 17 = .ok (.if_icmp .ge 13, 3) := by decide +kernel
theorem dX0_isSpan_20 : decode cX0_isSpan 20 = .ok (.iload_n 3, 1) := by decide +kernel
theorem dX0_isSpan_21 : decode cX0_isSpan 21 = .ok (.bipush 16, 2) := by decide +kernel
theorem dX0_isSpan_23 : decode cX0_isSpan 23 = .ok (.if_icmp .gt 7, 3) := by decide +kernel
theorem dX0_isSpan_26 : decode cX0_isSpan 26 = .ok (.iconst 1, 1) := by decide +kernel
theorem dX0_isSpan_27 : decode cX0_isSpan 27 = .ok (.goto 4, 3) := by decide +kernel
theorem dX0_isSpan_30 : decode cX0_isSpan 30 = .ok (.iconst 0, 1) := by decide +kernel
theorem dX0_isSpan_31 : decode cX0_isSpan 31 = .ok (.ireturn, 1) := by decide +kernel
theorem dX0_drop_0 : decode cX0_drop 0 = .ok (.iload_n 1, 1) := by decide +kernel
theorem dX0_drop_1 : decode cX0_drop 1 = .ok (.ifCond .lt 17, 3) := by decide +kernel
theorem dX0_drop_4 : decode cX0_drop 4 = .ok (.iload_n 1, 1) := by decide +kernel
theorem dX0_drop_5 : decode cX0_drop 5 = .ok (.iconst 2, 1) := by decide +kernel
theorem dX0_drop_6 : decode cX0_drop 6 = .ok (.if_icmp .gt 12, 3) := by decide +kernel
theorem dX0_drop_9 : decode cX0_drop 9 = .ok (.aload_n 0, 1) := by decide +kernel
theorem dX0_drop_10 : decode cX0_drop 10 = .ok (.getfield 7, 3) := by decide +kernel
theorem dX0_drop_13 : decode cX0_drop 13 = .ok (.iload_n 1, 1) := by decide +kernel
theorem dX0_drop_14 : decode cX0_drop 14 = .ok (.baload, 1) := by decide +kernel
theorem dX0_drop_15 : decode cX0_drop 15 = .ok (.ifCond .ne 6, 3) := by decide +kernel
theorem dX0_drop_18 : decode cX0_drop 18 = .ok (.bipush (-2), 2) := by decide +kernel
theorem dX0_drop_20 : decode cX0_drop 20 = .ok (.ireturn, 1) := by decide +kernel
theorem dX0_drop_21 : decode cX0_drop 21 = .ok (.aload_n 0, 1) := by decide +kernel
theorem dX0_drop_22 : decode cX0_drop 22 = .ok (.getfield 7, 3) := by decide +kernel
theorem dX0_drop_25 : decode cX0_drop 25 = .ok (.iload_n 1, 1) := by decide +kernel
theorem dX0_drop_26 : decode cX0_drop 26 = .ok (.dup2, 1) := by decide +kernel
theorem dX0_drop_27 : decode cX0_drop 27 = .ok (.baload, 1) := by decide +kernel
theorem dX0_drop_28 : decode cX0_drop 28 = .ok (.iconst 1, 1) := by decide +kernel
theorem dX0_drop_29 : decode cX0_drop 29 = .ok (.isub, 1) := by decide +kernel
theorem dX0_drop_30 : decode cX0_drop 30 = .ok (.i2b, 1) := by decide +kernel
theorem dX0_drop_31 : decode cX0_drop 31 = .ok (.bastore, 1) := by decide +kernel
theorem dX0_drop_32 : decode cX0_drop 32 = .ok (.bipush 10, 2) := by decide +kernel
theorem dX0_drop_34 : decode cX0_drop 34 = .ok (.iload_n 1, 1) := by decide +kernel
theorem dX0_drop_35 : decode cX0_drop 35 = .ok (.imul, 1) := by decide +kernel
theorem dX0_drop_36 : decode cX0_drop 36 = .ok (.istore_n 2, 1) := by decide +kernel
theorem dX0_drop_37 : decode cX0_drop 37 = .ok (.iload_n 2, 1) := by decide +kernel
theorem dX0_drop_38 : decode cX0_drop 38 = .ok (.bipush 10, 2) := by decide +kernel
theorem dX0_drop_40 : decode cX0_drop 40 = .ok (.iload_n 1, 1) := by decide +kernel
theorem dX0_drop_41 : decode cX0_drop 41 = .ok (.imul, 1) := by decide +kernel
theorem dX0_drop_42 : decode cX0_drop 42 = .ok (.aload_n 0, 1) := by decide +kernel
theorem dX0_drop_43 : decode cX0_drop 43 = .ok (.getfield 7, 3) := by decide +kernel
theorem dX0_drop_46 : decode cX0_drop 46 = .ok (.iload_n 1, 1) := by decide +kernel
theorem dX0_drop_47 : decode cX0_drop 47 = .ok (.baload, 1) := by decide +kernel
theorem dX0_drop_48 : decode cX0_drop 48 = .ok (.iadd, 1) := by decide +kernel
theorem dX0_drop_49 : decode cX0_drop 49 = .ok (.if_icmp .ge 51, 3) := by decide +kernel
theorem dX0_drop_52 : decode cX0_drop 52 = .ok (.aload_n 0, 1) := by decide +kernel
theorem dX0_drop_53 : decode cX0_drop 53 = .ok (.getfield 13, 3) := by decide +kernel
theorem dX0_drop_56 : decode cX0_drop 56 = .ok (.iload_n 2, 1) := by decide +kernel
theorem dX0_drop_57 : decode cX0_drop 57 = .ok (.aload_n 0, 1) := by decide +kernel
theorem dX0_drop_58 : decode cX0_drop 58 = .ok (.getfield 13, 3) := by decide +kernel
theorem dX0_drop_61 : decode cX0_drop 61 = .ok (.iload_n 2, 1) := by decide +kernel
theorem dX0_drop_62 : decode cX0_drop 62 = .ok (.iconst 1, 1) := by decide +kernel
theorem dX0_drop_63 : decode cX0_drop 63 = .ok (.iadd, 1) := by decide +kernel
theorem dX0_drop_64 : decode cX0_drop 64 = .ok (.baload, 1) := by decide +kernel
theorem dX0_drop_65 : decode cX0_drop 65 = .ok (.bastore, 1) := by decide +kernel
theorem dX0_drop_66 : decode cX0_drop 66 = .ok (.aload_n 0, 1) := by decide +kernel
theorem dX0_drop_67 : decode cX0_drop 67 = .ok (.getfield 16, 3) := by decide +kernel
theorem dX0_drop_70 : decode cX0_drop 70 = .ok (.iload_n 2, 1) := by decide +kernel
theorem dX0_drop_71 : decode cX0_drop 71 = .ok (.aload_n 0, 1) := by decide +kernel
theorem dX0_drop_72 : decode cX0_drop 72 = .ok (.getfield 16, 3) := by decide +kernel
theorem dX0_drop_75 : decode cX0_drop 75 = .ok (.iload_n 2, 1) := by decide +kernel
theorem dX0_drop_76 : decode cX0_drop 76 = .ok (.iconst 1, 1) := by decide +kernel
theorem dX0_drop_77 : decode cX0_drop 77 = .ok (.iadd, 1) := by decide +kernel
theorem dX0_drop_78 : decode cX0_drop 78 = .ok (.baload, 1) := by decide +kernel
theorem dX0_drop_79 : decode cX0_drop 79 = .ok (.bastore, 1) := by decide +kernel
theorem dX0_drop_80 : decode cX0_drop 80 = .ok (.aload_n 0, 1) := by decide +kernel
theorem dX0_drop_81 : decode cX0_drop 81 = .ok (.getfield 19, 3) := by decide +kernel
theorem dX0_drop_84 : decode cX0_drop 84 = .ok (.iload_n 2, 1) := by decide +kernel
theorem dX0_drop_85 : decode cX0_drop 85 = .ok (.aload_n 0, 1) := by decide +kernel
theorem dX0_drop_86 : decode cX0_drop 86 = .ok (.getfield 19, 3) := by decide +kernel
theorem dX0_drop_89 : decode cX0_drop 89 = .ok (.iload_n 2, 1) := by decide +kernel
theorem dX0_drop_90 : decode cX0_drop 90 = .ok (.iconst 1, 1) := by decide +kernel
theorem dX0_drop_91 : decode cX0_drop 91 = .ok (.iadd, 1) := by decide +kernel
theorem dX0_drop_92 : decode cX0_drop 92 = .ok (.iaload, 1) := by decide +kernel
theorem dX0_drop_93 : decode cX0_drop 93 = .ok (.iastore, 1) := by decide +kernel
theorem dX0_drop_94 : decode cX0_drop 94 = .ok (.iinc 2 1, 3) := by decide +kernel
theorem dX0_drop_97 : decode cX0_drop 97 = .ok (.goto (-60), 3) := by decide +kernel
theorem dX0_drop_100 : decode cX0_drop 100 = .ok (.aload_n 0, 1) := by decide +kernel
theorem dX0_drop_101 : decode cX0_drop 101 = .ok (.getfield 7, 3) := by decide +kernel
theorem dX0_drop_104 : decode cX0_drop 104 = .ok (.iload_n 1, 1) := by decide +kernel
theorem dX0_drop_105 : decode cX0_drop 105 = .ok (.baload, 1) := by decide +kernel
theorem dX0_drop_106 : decode cX0_drop 106 = .ok (.ireturn, 1) := by decide +kernel
theorem dX0_covers_0 : decode cX0_covers 0 = .ok (.aload_n 0, 1) := by decide +kernel
theorem dX0_covers_1 : decode cX0_covers 1 = .ok (.iload_n 1, 1) := by decide +kernel
theorem dX0_covers_2 : decode cX0_covers 2 = .ok (.invokevirtual 39, 3) := by decide +kernel
theorem dX0_covers_5 : decode cX0_covers 5 = .ok (.ifCond .eq 23, 3) := by decide +kernel
theorem dX0_covers_8 : decode cX0_covers 8 = .ok (.iload_n 2, 1) := by decide +kernel
theorem dX0_covers_9 : decode cX0_covers 9 = .ok (.ifCond .lt 19, 3) := by decide +kernel
theorem dX0_covers_12 : decode cX0_covers 12 = .ok (.iload_n 2, 1) := by decide +kernel
theorem dX0_covers_13 : decode cX0_covers 13 = .ok (.bipush 15, 2) := by decide +kernel
theorem dX0_covers_15 : decode cX0_covers 15 = .ok (.if_icmp .gt 13, 3) := by decide +kernel
theorem dX0_covers_18 : decode cX0_covers 18 = .ok (.iload_n 3, 1) := by decide +kernel
theorem dX0_covers_19 : decode cX0_covers 19 = .ok (.ifCond .lt 9, 3) := by decide +kernel
theorem dX0_covers_22 : decode cX0_covers 22 = .ok (.iload_n 3, 1) := by decide +kernel
theorem dX0_covers_23 : decode cX0_covers 23 = .ok (.bipush 15, 2) := by decide +kernel
theorem dX0_covers_25 : decode cX0_covers 25 = .ok (.if_icmp .le 5, 3) := by decide +kernel
theorem dX0_covers_28 : decode cX0_covers 28 = .ok (.iconst 0, 1) := by decide +kernel
theorem dX0_covers_29 : decode cX0_covers 29 = .ok (.ireturn, 1) := by decide +kernel
theorem dX0_covers_30 : decode cX0_covers 30 = .ok (.aload_n 0, 1) := by decide +kernel
theorem dX0_covers_31 : decode cX0_covers 31 = .ok (.iload_n 1, 1) := by decide +kernel
theorem dX0_covers_32 : decode cX0_covers 32 = .ok (.iload_n 2, 1) := by decide +kernel
theorem dX0_covers_33 : decode cX0_covers 33 = .ok (.invokevirtual 42, 3) := by decide +kernel
theorem dX0_covers_36 : decode cX0_covers 36 = .ok (.iload_n 3, 1) := by decide +kernel
theorem dX0_covers_37 : decode cX0_covers 37 = .ok (.ishr, 1) := by decide +kernel
theorem dX0_covers_38 : decode cX0_covers 38 = .ok (.iconst 1, 1) := by decide +kernel
theorem dX0_covers_39 : decode cX0_covers 39 = .ok (.iand, 1) := by decide +kernel
theorem dX0_covers_40 : decode cX0_covers 40 = .ok (.ifCond .eq 7, 3) := by decide +kernel
theorem dX0_covers_43 : decode cX0_covers 43 = .ok (.iconst 1, 1) := by decide +kernel
theorem dX0_covers_44 : decode cX0_covers 44 = .ok (.goto 4, 3) := by decide +kernel
theorem dX0_covers_47 : decode cX0_covers 47 = .ok (.iconst 0, 1) := by decide +kernel
theorem dX0_covers_48 : decode cX0_covers 48 = .ok (.ireturn, 1) := by decide +kernel
theorem dX0_isLayer_0 : decode cX0_isLayer 0 = .ok (.iload_n 1, 1) := by decide +kernel
theorem dX0_isLayer_1 : decode cX0_isLayer 1 = .ok (.ifCond .lt 12, 3) := by decide +kernel
theorem dX0_isLayer_4 : decode cX0_isLayer 4 = .ok (.iload_n 1, 1) := by decide +kernel
theorem dX0_isLayer_5 : decode cX0_isLayer 5 = .ok (.iconst 2, 1) := by decide +kernel
theorem dX0_isLayer_6 : decode cX0_isLayer 6 = .ok (.if_icmp .gt 7, 3) := by decide +kernel
theorem dX0_isLayer_9 : decode cX0_isLayer 9 = .ok (.iconst 1, 1) := by decide +kernel
theorem dX0_isLayer_10 : decode cX0_isLayer 10 = .ok (.goto 4, 3) := by decide +kernel
theorem dX0_isLayer_13 : decode cX0_isLayer 13 = .ok (.iconst 0, 1) := by decide +kernel
theorem dX0_isLayer_14 : decode cX0_isLayer 14 = .ok (.ireturn, 1) := by decide +kernel
theorem dX0_rowsAt_0 : decode cX0_rowsAt 0 = .ok (.iconst 0, 1) := by decide +kernel
theorem dX0_rowsAt_1 : decode cX0_rowsAt 1 = .ok (.istore_n 3, 1) := by decide +kernel
theorem dX0_rowsAt_2 : decode cX0_rowsAt 2 = .ok (.bipush 10, 2) := by decide +kernel
theorem dX0_rowsAt_4 : decode cX0_rowsAt 4 = .ok (.iload_n 1, 1) := by decide +kernel
theorem dX0_rowsAt_5 : decode cX0_rowsAt 5 = .ok (.imul, 1) := by decide +kernel
theorem dX0_rowsAt_6 : decode cX0_rowsAt 6 = .ok (.istore 4, 2) := by decide +kernel
theorem dX0_rowsAt_8 : decode cX0_rowsAt 8 = .ok (.iload 4, 2) := by decide +kernel
theorem dX0_rowsAt_10 : decode cX0_rowsAt 10 = .ok (.bipush 10, 2) := by decide +kernel
theorem dX0_rowsAt_12 : decode cX0_rowsAt 12 = .ok (.iload_n 1, 1) := by decide +kernel
theorem dX0_rowsAt_13 : decode cX0_rowsAt 13 = .ok (.imul, 1) := by decide +kernel
theorem dX0_rowsAt_14 : decode cX0_rowsAt 14 = .ok (.aload_n 0, 1) := by decide +kernel
theorem dX0_rowsAt_15 : decode cX0_rowsAt 15 = .ok (.getfield 7, 3) := by decide +kernel
theorem dX0_rowsAt_18 : decode cX0_rowsAt 18 = .ok (.iload_n 1, 1) := by decide +kernel
theorem dX0_rowsAt_19 : decode cX0_rowsAt 19 = .ok (.baload, 1) := by decide +kernel
theorem dX0_rowsAt_20 : decode cX0_rowsAt 20 = .ok (.iadd, 1) := by decide +kernel
theorem dX0_rowsAt_21 : decode cX0_rowsAt 21 = .ok (.if_icmp .ge 41, 3) := by decide +kernel
theorem dX0_rowsAt_24 : decode cX0_rowsAt 24 = .ok (.aload_n 0, 1) := by decide +kernel
theorem dX0_rowsAt_25 : decode cX0_rowsAt 25 = .ok (.getfield 13, 3) := by decide +kernel
theorem dX0_rowsAt_28 : decode cX0_rowsAt 28 = .ok (.iload 4, 2) := by decide +kernel
theorem dX0_rowsAt_30 : decode cX0_rowsAt 30 = .ok (.baload, 1) := by decide +kernel
theorem dX0_rowsAt_31 : decode cX0_rowsAt 31 = .ok (.iload_n 2, 1) := by decide +kernel
theorem dX0_rowsAt_32 : decode cX0_rowsAt 32 = .ok (.if_icmp .gt 24, 3) := by decide +kernel
theorem dX0_rowsAt_35 : decode cX0_rowsAt 35 = .ok (.iload_n 2, 1) := by decide +kernel
theorem dX0_rowsAt_36 : decode cX0_rowsAt 36 = .ok (.aload_n 0, 1) := by decide +kernel
theorem dX0_rowsAt_37 : decode cX0_rowsAt 37 = .ok (.getfield 16, 3) := by decide +kernel
theorem dX0_rowsAt_40 : decode cX0_rowsAt 40 = .ok (.iload 4, 2) := by decide +kernel
theorem dX0_rowsAt_42 : decode cX0_rowsAt 42 = .ok (.baload, 1) := by decide +kernel
theorem dX0_rowsAt_43 : decode cX0_rowsAt 43 = .ok (.if_icmp .ge 13, 3) := by decide +kernel
theorem dX0_rowsAt_46 : decode cX0_rowsAt 46 = .ok (.iload_n 3, 1) := by decide +kernel
theorem dX0_rowsAt_47 : decode cX0_rowsAt 47 = .ok (.aload_n 0, 1) := by decide +kernel
theorem dX0_rowsAt_48 : decode cX0_rowsAt 48 = .ok (.getfield 19, 3) := by decide +kernel
theorem dX0_rowsAt_51 : decode cX0_rowsAt 51 = .ok (.iload 4, 2) := by decide +kernel
theorem dX0_rowsAt_53 : decode cX0_rowsAt 53 = .ok (.iaload, 1) := by decide +kernel
theorem dX0_rowsAt_54 : decode cX0_rowsAt 54 = .ok (.ior, 1) := by decide +kernel
theorem dX0_rowsAt_55 : decode cX0_rowsAt 55 = .ok (.istore_n 3, 1) := by decide +kernel
theorem dX0_rowsAt_56 : decode cX0_rowsAt 56 = .ok (.iinc 4 1, 3) := by decide +kernel
theorem dX0_rowsAt_59 : decode cX0_rowsAt 59 = .ok (.goto (-51), 3) := by decide +kernel
theorem dX0_rowsAt_62 : decode cX0_rowsAt 62 = .ok (.iload_n 3, 1) := by decide +kernel
theorem dX0_rowsAt_63 : decode cX0_rowsAt 63 = .ok (.ireturn, 1) := by decide +kernel
theorem dX0_area_0 : decode cX0_area 0 = .ok (.iload_n 1, 1) := by decide +kernel
theorem dX0_area_1 : decode cX0_area 1 = .ok (.ifCond .lt 24, 3) := by decide +kernel
theorem dX0_area_4 : decode cX0_area 4 = .ok (.iload_n 1, 1) := by decide +kernel
theorem dX0_area_5 : decode cX0_area 5 = .ok (.iconst 2, 1) := by decide +kernel
theorem dX0_area_6 : decode cX0_area 6 = .ok (.if_icmp .gt 19, 3) := by decide +kernel
theorem dX0_area_9 : decode cX0_area 9 = .ok (.aload_n 0, 1) := by decide +kernel
theorem dX0_area_10 : decode cX0_area 10 = .ok (.iload_n 2, 1) := by decide +kernel
theorem dX0_area_11 : decode cX0_area 11 = .ok (.invokevirtual 39, 3) := by decide +kernel
theorem dX0_area_14 : decode cX0_area 14 = .ok (.ifCond .eq 11, 3) := by decide +kernel
theorem dX0_area_17 : decode cX0_area 17 = .ok (.aload_n 0, 1) := by decide +kernel
theorem dX0_area_18 : decode cX0_area 18 = .ok (.iload_n 3, 1) := by decide +kernel
theorem dX0_area_19 : decode cX0_area 19 = .ok (.invokevirtual 39, 3) := by decide +kernel
theorem dX0_area_22 : decode cX0_area 22 = .ok (.ifCond .ne 6, 3) := by decide +kernel
theorem dX0_area_25 : decode cX0_area 25 = .ok (.bipush (-2), 2) := by decide +kernel
theorem dX0_area_27 : decode cX0_area 27 = .ok (.ireturn, 1) := by decide +kernel
theorem dX0_area_28 : decode cX0_area 28 = .ok (.aload_n 0, 1) := by decide +kernel
theorem dX0_area_29 : decode cX0_area 29 = .ok (.iload_n 1, 1) := by decide +kernel
theorem dX0_area_30 : decode cX0_area 30 = .ok (.iload_n 2, 1) := by decide +kernel
theorem dX0_area_31 : decode cX0_area 31 = .ok (.iload_n 3, 1) := by decide +kernel
theorem dX0_area_32 : decode cX0_area 32 = .ok (.invokevirtual 46, 3) := by decide +kernel
theorem dX0_area_35 : decode cX0_area 35 = .ok (.iconst 0, 1) := by decide +kernel
theorem dX0_area_36 : decode cX0_area 36 = .ok (.istore 4, 2) := by decide +kernel
theorem dX0_area_38 : decode cX0_area 38 = .ok (.iconst 0, 1) := by decide +kernel
theorem dX0_area_39 : decode cX0_area 39 = .ok (.istore 5, 2) := by decide +kernel
theorem dX0_area_41 : decode cX0_area 41 = .ok (.iload 5, 2) := by decide +kernel
theorem dX0_area_43 : decode cX0_area 43 = .ok (.aload_n 0, 1) := by decide +kernel
theorem dX0_area_44 : decode cX0_area 44 = .ok (.getfield 50, 3) := by decide +kernel
theorem dX0_area_47 : decode cX0_area 47 = .ok (.if_icmp .ge 32, 3) := by decide +kernel
theorem dX0_area_50 : decode cX0_area 50 = .ok (.iload 4, 2) := by decide +kernel
theorem dX0_area_52 : decode cX0_area 52 = .ok (.aload_n 0, 1) := by decide +kernel
theorem dX0_area_53 : decode cX0_area 53 = .ok (.iload 5, 2) := by decide +kernel
theorem dX0_area_55 : decode cX0_area 55 = .ok (.invokevirtual 54, 3) := by decide +kernel
theorem dX0_area_58 : decode cX0_area 58 = .ok (.aload_n 0, 1) := by decide +kernel
theorem dX0_area_59 : decode cX0_area 59 = .ok (.aload_n 0, 1) := by decide +kernel
theorem dX0_area_60 : decode cX0_area 60 = .ok (.getfield 26, 3) := by decide +kernel
theorem dX0_area_63 : decode cX0_area 63 = .ok (.iload 5, 2) := by decide +kernel
theorem dX0_area_65 : decode cX0_area 65 = .ok (.iaload, 1) := by decide +kernel
theorem dX0_area_66 : decode cX0_area 66 = .ok (.invokevirtual 58, 3) := by decide +kernel
theorem dX0_area_69 : decode cX0_area 69 = .ok (.imul, 1) := by decide +kernel
theorem dX0_area_70 : decode cX0_area 70 = .ok (.iadd, 1) := by decide +kernel
theorem dX0_area_71 : decode cX0_area 71 = .ok (.istore 4, 2) := by decide +kernel
theorem dX0_area_73 : decode cX0_area 73 = .ok (.iinc 5 1, 3) := by decide +kernel
theorem dX0_area_76 : decode cX0_area 76 = .ok (.goto (-35), 3) := by decide +kernel
theorem dX0_area_79 : decode cX0_area 79 = .ok (.iload 4, 2) := by decide +kernel
theorem dX0_area_81 : decode cX0_area 81 = .ok (.ireturn, 1) := by decide +kernel
theorem dX0_sweep_0 : decode cX0_sweep 0 = .ok (.aload_n 0, 1) := by decide +kernel
theorem dX0_sweep_1 : decode cX0_sweep 1 = .ok (.iload_n 2, 1) := by decide +kernel
theorem dX0_sweep_2 : decode cX0_sweep 2 = .ok (.invokevirtual 80, 3) := by decide +kernel
theorem dX0_sweep_5 : decode cX0_sweep 5 = .ok (.aload_n 0, 1) := by decide +kernel
theorem dX0_sweep_6 : decode cX0_sweep 6 = .ok (.iload_n 3, 1) := by decide +kernel
theorem dX0_sweep_7 : decode cX0_sweep 7 = .ok (.invokevirtual 80, 3) := by decide +kernel
theorem dX0_sweep_10 : decode cX0_sweep 10 = .ok (.ior, 1) := by decide +kernel
theorem dX0_sweep_11 : decode cX0_sweep 11 = .ok (.iconst 1, 1) := by decide +kernel
theorem dX0_sweep_12 : decode cX0_sweep 12 = .ok (.ior, 1) := by decide +kernel
theorem dX0_sweep_13 : decode cX0_sweep 13 = .ok (.ldc 83, 2) := by decide +kernel
theorem dX0_sweep_15 : decode cX0_sweep 15 = .ok (.ior, 1) := by decide +kernel
theorem dX0_sweep_16 : decode cX0_sweep 16 = .ok (.istore 4, 2) := by decide +kernel
theorem dX0_sweep_18 : decode cX0_sweep 18 = .ok (.aload_n 0, 1) := by decide +kernel
theorem dX0_sweep_19 : decode cX0_sweep 19 = .ok (.iconst (-1), 1) := by decide +kernel
theorem dX0_sweep_20 : decode cX0_sweep 20 = .ok (.putfield 50, 3) := by decide +kernel
theorem dX0_sweep_23 : decode cX0_sweep 23 = .ok (.iconst 0, 1) := by decide +kernel
theorem dX0_sweep_24 : decode cX0_sweep 24 = .ok (.istore 5, 2) := by decide +kernel
theorem dX0_sweep_26 : decode cX0_sweep 26 = .ok (.iload 5, 2) := by decide +kernel
theorem dX0_sweep_28 : decode cX0_sweep 28 = .ok (.bipush 16, 2) := by decide +kernel
theorem dX0_sweep_30 : decode cX0_sweep 30 = .ok (.if_icmp .gt 44, 3) := by decide +kernel
theorem dX0_sweep_33 : decode cX0_sweep 33 = .ok (.iload 4, 2) := by decide +kernel
theorem dX0_sweep_35 : decode cX0_sweep 35 = .ok (.iload 5, 2) := by decide +kernel
theorem dX0_sweep_37 : decode cX0_sweep 37 = .ok (.ishr, 1) := by decide +kernel
theorem dX0_sweep_38 : decode cX0_sweep 38 = .ok (.iconst 1, 1) := by decide +kernel
theorem dX0_sweep_39 : decode cX0_sweep 39 = .ok (.iand, 1) := by decide +kernel
theorem dX0_sweep_40 : decode cX0_sweep 40 = .ok (.ifCond .ne 6, 3) := by decide +kernel
theorem dX0_sweep_43 : decode cX0_sweep 43 = .ok (.goto 25, 3) := by decide +kernel
theorem dX0_sweep_46 : decode cX0_sweep 46 = .ok (.aload_n 0, 1) := by decide +kernel
theorem dX0_sweep_47 : decode cX0_sweep 47 = .ok (.dup, 1) := by decide +kernel
theorem dX0_sweep_48 : decode cX0_sweep 48 = .ok (.getfield 50, 3) := by decide +kernel
theorem dX0_sweep_51 : decode cX0_sweep 51 = .ok (.iconst 1, 1) := by decide +kernel
theorem dX0_sweep_52 : decode cX0_sweep 52 = .ok (.iadd, 1) := by decide +kernel
theorem dX0_sweep_53 : decode cX0_sweep 53 = .ok (.putfield 50, 3) := by decide +kernel
theorem dX0_sweep_56 : decode cX0_sweep 56 = .ok (.aload_n 0, 1) := by decide +kernel
theorem dX0_sweep_57 : decode cX0_sweep 57 = .ok (.getfield 23, 3) := by decide +kernel
theorem dX0_sweep_60 : decode cX0_sweep 60 = .ok (.aload_n 0, 1) := by decide +kernel
theorem dX0_sweep_61 : decode cX0_sweep 61 = .ok (.getfield 50, 3) := by decide +kernel
theorem dX0_sweep_64 : decode cX0_sweep 64 = .ok (.iload 5, 2) := by decide +kernel
theorem dX0_sweep_66 : decode cX0_sweep 66 = .ok (.i2b, 1) := by decide +kernel
theorem dX0_sweep_67 : decode cX0_sweep 67 = .ok (.bastore, 1) := by decide +kernel
theorem dX0_sweep_68 : decode cX0_sweep 68 = .ok (.iinc 5 1, 3) := by decide +kernel
theorem dX0_sweep_71 : decode cX0_sweep 71 = .ok (.goto (-45), 3) := by decide +kernel
theorem dX0_sweep_74 : decode cX0_sweep 74 = .ok (.iconst 0, 1) := by decide +kernel
theorem dX0_sweep_75 : decode cX0_sweep 75 = .ok (.istore 5, 2) := by decide +kernel
theorem dX0_sweep_77 : decode cX0_sweep 77 = .ok (.iload 5, 2) := by decide +kernel
theorem dX0_sweep_79 : decode cX0_sweep 79 = .ok (.aload_n 0, 1) := by decide +kernel
theorem dX0_sweep_80 : decode cX0_sweep 80 = .ok (.getfield 50, 3) := by decide +kernel
theorem dX0_sweep_83 : decode cX0_sweep 83 = .ok (.if_icmp .ge 76, 3) := by decide +kernel
theorem dX0_sweep_86 : decode cX0_sweep 86 = .ok (.aload_n 0, 1) := by decide +kernel
theorem dX0_sweep_87 : decode cX0_sweep 87 = .ok (.iload_n 2, 1) := by decide +kernel
theorem dX0_sweep_88 : decode cX0_sweep 88 = .ok (.aload_n 0, 1) := by decide +kernel
theorem dX0_sweep_89 : decode cX0_sweep 89 = .ok (.getfield 23, 3) := by decide +kernel
theorem dX0_sweep_92 : decode cX0_sweep 92 = .ok (.iload 5, 2) := by decide +kernel
theorem dX0_sweep_94 : decode cX0_sweep 94 = .ok (.baload, 1) := by decide +kernel
theorem dX0_sweep_95 : decode cX0_sweep 95 = .ok (.invokevirtual 42, 3) := by decide +kernel
theorem dX0_sweep_98 : decode cX0_sweep 98 = .ok (.istore 6, 2) := by decide +kernel
theorem dX0_sweep_100 : decode cX0_sweep 100 = .ok (.aload_n 0, 1) := by decide +kernel
theorem dX0_sweep_101 : decode cX0_sweep 101 = .ok (.iload_n 3, 1) := by decide +kernel
theorem dX0_sweep_102 : decode cX0_sweep 102 = .ok (.aload_n 0, 1) := by decide +kernel
theorem dX0_sweep_103 : decode cX0_sweep 103 = .ok (.getfield 23, 3) := by decide +kernel
theorem dX0_sweep_106 : decode cX0_sweep 106 = .ok (.iload 5, 2) := by decide +kernel
theorem dX0_sweep_108 : decode cX0_sweep 108 = .ok (.baload, 1) := by decide +kernel
theorem dX0_sweep_109 : decode cX0_sweep 109 = .ok (.invokevirtual 42, 3) := by decide +kernel
theorem dX0_sweep_112 : decode cX0_sweep 112 = .ok (.istore 7, 2) := by decide +kernel
theorem dX0_sweep_114 : decode cX0_sweep 114 = .ok (.aload_n 0, 1) := by decide +kernel
theorem dX0_sweep_115 : decode cX0_sweep 115 = .ok (.getfield 26, 3) := by decide +kernel
theorem dX0_sweep_118 : decode cX0_sweep 118 = .ok (.iload 5, 2) := by decide +kernel
theorem dX0_sweep_120 : decode cX0_sweep 120 = .ok (.iload_n 1, 1) := by decide +kernel
theorem dX0_sweep_121 : decode cX0_sweep 121 = .ok (.ifCond .ne 11, 3) := by decide +kernel
theorem dX0_sweep_124 : decode cX0_sweep 124 = .ok (.iload 6, 2) := by decide +kernel
theorem dX0_sweep_126 : decode cX0_sweep 126 = .ok (.iload 7, 2) := by decide +kernel
theorem dX0_sweep_128 : decode cX0_sweep 128 = .ok (.iand, 1) := by decide +kernel
theorem dX0_sweep_129 : decode cX0_sweep 129 = .ok (.goto 23, 3) := by decide +kernel
theorem dX0_sweep_132 : decode cX0_sweep 132 = .ok (.iload_n 1, 1) := by decide +kernel
theorem dX0_sweep_133 : decode cX0_sweep 133 = .ok (.iconst 1, 1) := by decide +kernel
theorem dX0_sweep_134 : decode cX0_sweep 134 = .ok (.if_icmp .ne 11, 3) := by decide +kernel
theorem dX0_sweep_137 : decode cX0_sweep 137 = .ok (.iload 6, 2) := by decide +kernel
theorem dX0_sweep_139 : decode cX0_sweep 139 = .ok (.iload 7, 2) := by decide +kernel
theorem dX0_sweep_141 : decode cX0_sweep 141 = .ok (.ior, 1) := by decide +kernel
theorem dX0_sweep_142 : decode cX0_sweep 142 = .ok (.goto 10, 3) := by decide +kernel
theorem dX0_sweep_145 : decode cX0_sweep 145 = .ok (.iload 6, 2) := by decide +kernel
theorem dX0_sweep_147 : decode cX0_sweep 147 = .ok (.iload 7, 2) := by decide +kernel
theorem dX0_sweep_149 : decode cX0_sweep 149 = .ok (.iconst (-1), 1) := by decide +kernel
theorem dX0_sweep_150 : decode cX0_sweep 150 = .ok (.ixor, 1) := by decide +kernel
theorem dX0_sweep_151 : decode cX0_sweep 151 = .ok (.iand, 1) := by decide +kernel
theorem dX0_sweep_152 : decode cX0_sweep 152 = .ok (.iastore, 1) := by decide +kernel
theorem dX0_sweep_153 : decode cX0_sweep 153 = .ok (.iinc 5 1, 3) := by decide +kernel
theorem dX0_sweep_156 : decode cX0_sweep 156 = .ok (.goto (-79), 3) := by decide +kernel
theorem dX0_sweep_159 : decode cX0_sweep 159 = .ok (.return_, 1) := by decide +kernel
theorem dX0_linesOf_0 : decode cX0_linesOf 0 = .ok (.iconst 0, 1) := by decide +kernel
theorem dX0_linesOf_1 : decode cX0_linesOf 1 = .ok (.istore_n 2, 1) := by decide +kernel
theorem dX0_linesOf_2 : decode cX0_linesOf 2 = .ok (.bipush 10, 2) := by decide +kernel
theorem dX0_linesOf_4 : decode cX0_linesOf 4 = .ok (.iload_n 1, 1) := by decide +kernel
theorem dX0_linesOf_5 : decode cX0_linesOf 5 = .ok (.imul, 1) := by decide +kernel
theorem dX0_linesOf_6 : decode cX0_linesOf 6 = .ok (.istore_n 3, 1) := by decide +kernel
theorem dX0_linesOf_7 : decode cX0_linesOf 7 = .ok (.iload_n 3, 1) := by decide +kernel
theorem dX0_linesOf_8 : decode cX0_linesOf 8 = .ok (.bipush 10, 2) := by decide +kernel
theorem dX0_linesOf_10 : decode cX0_linesOf 10 = .ok (.iload_n 1, 1) := by decide +kernel
theorem dX0_linesOf_11 : decode cX0_linesOf 11 = .ok (.imul, 1) := by decide +kernel
theorem dX0_linesOf_12 : decode cX0_linesOf 12 = .ok (.aload_n 0, 1) := by decide +kernel
theorem dX0_linesOf_13 : decode cX0_linesOf 13 = .ok (.getfield 7, 3) := by decide +kernel
theorem dX0_linesOf_16 : decode cX0_linesOf 16 = .ok (.iload_n 1, 1) := by decide +kernel
theorem dX0_linesOf_17 : decode cX0_linesOf 17 = .ok (.baload, 1) := by decide +kernel
theorem dX0_linesOf_18 : decode cX0_linesOf 18 = .ok (.iadd, 1) := by decide +kernel
theorem dX0_linesOf_19 : decode cX0_linesOf 19 = .ok (.if_icmp .ge 29, 3) := by decide +kernel
theorem dX0_linesOf_22 : decode cX0_linesOf 22 = .ok (.iload_n 2, 1) := by decide +kernel
theorem dX0_linesOf_23 : decode cX0_linesOf 23 = .ok (.iconst 1, 1) := by decide +kernel
theorem dX0_linesOf_24 : decode cX0_linesOf 24 = .ok (.aload_n 0, 1) := by decide +kernel
theorem dX0_linesOf_25 : decode cX0_linesOf 25 = .ok (.getfield 13, 3) := by decide +kernel
theorem dX0_linesOf_28 : decode cX0_linesOf 28 = .ok (.iload_n 3, 1) := by decide +kernel
theorem dX0_linesOf_29 : decode cX0_linesOf 29 = .ok (.baload, 1) := by decide +kernel
theorem dX0_linesOf_30 : decode cX0_linesOf 30 = .ok (.ishl, 1) := by decide +kernel
theorem dX0_linesOf_31 : decode cX0_linesOf 31 = .ok (.iconst 1, 1) := by decide +kernel
theorem dX0_linesOf_32 : decode cX0_linesOf 32 = .ok (.aload_n 0, 1) := by decide +kernel
theorem dX0_linesOf_33 : decode cX0_linesOf 33 = .ok (.getfield 16, 3) := by decide +kernel
theorem dX0_linesOf_36 : decode cX0_linesOf 36 = .ok (.iload_n 3, 1) := by decide +kernel
theorem dX0_linesOf_37 : decode cX0_linesOf 37 = .ok (.baload, 1) := by decide +kernel
theorem dX0_linesOf_38 : decode cX0_linesOf 38 = .ok (.ishl, 1) := by decide +kernel
theorem dX0_linesOf_39 : decode cX0_linesOf 39 = .ok (.ior, 1) := by decide +kernel
theorem dX0_linesOf_40 : decode cX0_linesOf 40 = .ok (.ior, 1) := by decide +kernel
theorem dX0_linesOf_41 : decode cX0_linesOf 41 = .ok (.istore_n 2, 1) := by decide +kernel
theorem dX0_linesOf_42 : decode cX0_linesOf 42 = .ok (.iinc 3 1, 3) := by decide +kernel
theorem dX0_linesOf_45 : decode cX0_linesOf 45 = .ok (.goto (-38), 3) := by decide +kernel
theorem dX0_linesOf_48 : decode cX0_linesOf 48 = .ok (.iload_n 2, 1) := by decide +kernel
theorem dX0_linesOf_49 : decode cX0_linesOf 49 = .ok (.ireturn, 1) := by decide +kernel
theorem dX0_widthOf_0 : decode cX0_widthOf 0 = .ok (.aload_n 0, 1) := by decide +kernel
theorem dX0_widthOf_1 : decode cX0_widthOf 1 = .ok (.getfield 23, 3) := by decide +kernel
theorem dX0_widthOf_4 : decode cX0_widthOf 4 = .ok (.iload_n 1, 1) := by decide +kernel
theorem dX0_widthOf_5 : decode cX0_widthOf 5 = .ok (.iconst 1, 1) := by decide +kernel
theorem dX0_widthOf_6 : decode cX0_widthOf 6 = .ok (.iadd, 1) := by decide +kernel
theorem dX0_widthOf_7 : decode cX0_widthOf 7 = .ok (.baload, 1) := by decide +kernel
theorem dX0_widthOf_8 : decode cX0_widthOf 8 = .ok (.aload_n 0, 1) := by decide +kernel
theorem dX0_widthOf_9 : decode cX0_widthOf 9 = .ok (.getfield 23, 3) := by decide +kernel
theorem dX0_widthOf_12 : decode cX0_widthOf 12 = .ok (.iload_n 1, 1) := by decide +kernel
theorem dX0_widthOf_13 : decode cX0_widthOf 13 = .ok (.baload, 1) := by decide +kernel
theorem dX0_widthOf_14 : decode cX0_widthOf 14 = .ok (.isub, 1) := by decide +kernel
theorem dX0_widthOf_15 : decode cX0_widthOf 15 = .ok (.ireturn, 1) := by decide +kernel
theorem dX0_bitsIn_0 : decode cX0_bitsIn 0 = .ok (.iconst 0, 1) := by decide +kernel
theorem dX0_bitsIn_1 : decode cX0_bitsIn 1 = .ok (.istore_n 2, 1) := by decide +kernel
theorem dX0_bitsIn_2 : decode cX0_bitsIn 2 = .ok (.iconst 0, 1) := by decide +kernel
theorem dX0_bitsIn_3 : decode cX0_bitsIn 3 = .ok (.istore_n 3, 1) := by decide +kernel
theorem dX0_bitsIn_4 : decode cX0_bitsIn 4 = .ok (.iload_n 3, 1) := by decide +kernel
theorem dX0_bitsIn_5 : decode cX0_bitsIn 5 = .ok (.bipush 18, 2) := by decide +kernel
theorem dX0_bitsIn_7 : decode cX0_bitsIn 7 = .ok (.if_icmp .ge 17, 3) := by decide +kernel
theorem dX0_bitsIn_10 : decode cX0_bitsIn 10 = .ok (.iload_n 2, 1) := by decide +kernel
theorem dX0_bitsIn_11 : decode cX0_bitsIn 11 = .ok (.iload_n 1, 1) := by decide +kernel
theorem dX0_bitsIn_12 : decode cX0_bitsIn 12 = .ok (.iload_n 3, 1) := by decide +kernel
theorem dX0_bitsIn_13 : decode cX0_bitsIn 13 = .ok (.ishr, 1) := by decide +kernel
theorem dX0_bitsIn_14 : decode cX0_bitsIn 14 = .ok (.iconst 1, 1) := by decide +kernel
theorem dX0_bitsIn_15 : decode cX0_bitsIn 15 = .ok (.iand, 1) := by decide +kernel
theorem dX0_bitsIn_16 : decode cX0_bitsIn 16 = .ok (.iadd, 1) := by decide +kernel
theorem dX0_bitsIn_17 : decode cX0_bitsIn 17 = .ok (.istore_n 2, 1) := by decide +kernel
theorem dX0_bitsIn_18 : decode cX0_bitsIn 18 = .ok (.iinc 3 1, 3) := by decide +kernel
theorem dX0_bitsIn_21 : decode cX0_bitsIn 21 = .ok (.goto (-17), 3) := by decide +kernel
theorem dX0_bitsIn_24 : decode cX0_bitsIn 24 = .ok (.iload_n 2, 1) := by decide +kernel
theorem dX0_bitsIn_25 : decode cX0_bitsIn 25 = .ok (.ireturn, 1) := by decide +kernel
theorem dX0_outline_0 : decode cX0_outline 0 = .ok (.iload_n 1, 1) := by decide +kernel
theorem dX0_outline_1 : decode cX0_outline 1 = .ok (.ifCond .lt 24, 3) := by decide +kernel
theorem dX0_outline_4 : decode cX0_outline 4 = .ok (.iload_n 1, 1) := by decide +kernel
theorem dX0_outline_5 : decode cX0_outline 5 = .ok (.iconst 2, 1) := by decide +kernel
theorem dX0_outline_6 : decode cX0_outline 6 = .ok (.if_icmp .gt 19, 3) := by decide +kernel
theorem dX0_outline_9 : decode cX0_outline 9 = .ok (.aload_n 0, 1) := by decide +kernel
theorem dX0_outline_10 : decode cX0_outline 10 = .ok (.iload_n 2, 1) := by decide +kernel
theorem dX0_outline_11 : decode cX0_outline 11 = .ok (.invokevirtual 39, 3) := by decide +kernel
theorem dX0_outline_14 : decode cX0_outline 14 = .ok (.ifCond .eq 11, 3) := by decide +kernel
theorem dX0_outline_17 : decode cX0_outline 17 = .ok (.aload_n 0, 1) := by decide +kernel
theorem dX0_outline_18 : decode cX0_outline 18 = .ok (.iload_n 3, 1) := by decide +kernel
theorem dX0_outline_19 : decode cX0_outline 19 = .ok (.invokevirtual 39, 3) := by decide +kernel
theorem dX0_outline_22 : decode cX0_outline 22 = .ok (.ifCond .ne 6, 3) := by decide +kernel
theorem dX0_outline_25 : decode cX0_outline 25 = .ok (.bipush (-2), 2) := by decide +kernel
theorem dX0_outline_27 : decode cX0_outline 27 = .ok (.ireturn, 1) := by decide +kernel
theorem dX0_outline_28 : decode cX0_outline 28 = .ok (.aload_n 0, 1) := by decide +kernel
theorem dX0_outline_29 : decode cX0_outline 29 = .ok (.iload_n 1, 1) := by decide +kernel
theorem dX0_outline_30 : decode cX0_outline 30 = .ok (.iload_n 2, 1) := by decide +kernel
theorem dX0_outline_31 : decode cX0_outline 31 = .ok (.iload_n 3, 1) := by decide +kernel
theorem dX0_outline_32 : decode cX0_outline 32 = .ok (.invokevirtual 46, 3) := by decide +kernel
theorem dX0_outline_35 : decode cX0_outline 35 = .ok (.iconst 0, 1) := by decide +kernel
theorem dX0_outline_36 : decode cX0_outline 36 = .ok (.istore 4, 2) := by decide +kernel
theorem dX0_outline_38 : decode cX0_outline 38 = .ok (.iconst 0, 1) := by decide +kernel
theorem dX0_outline_39 : decode cX0_outline 39 = .ok (.istore 5, 2) := by decide +kernel
theorem dX0_outline_41 : decode cX0_outline 41 = .ok (.iconst 0, 1) := by decide +kernel
theorem dX0_outline_42 : decode cX0_outline 42 = .ok (.istore 6, 2) := by decide +kernel
theorem dX0_outline_44 : decode cX0_outline 44 = .ok (.iload 6, 2) := by decide +kernel
theorem dX0_outline_46 : decode cX0_outline 46 = .ok (.aload_n 0, 1) := by decide +kernel
theorem dX0_outline_47 : decode cX0_outline 47 = .ok (.getfield 50, 3) := by decide +kernel
theorem dX0_outline_50 : decode cX0_outline 50 = .ok (.if_icmp .ge 70, 3) := by decide +kernel
theorem dX0_outline_53 : decode cX0_outline 53 = .ok (.iload 4, 2) := by decide +kernel
theorem dX0_outline_55 : decode cX0_outline 55 = .ok (.aload_n 0, 1) := by decide +kernel
theorem dX0_outline_56 : decode cX0_outline 56 = .ok (.iload 5, 2) := by decide +kernel
theorem dX0_outline_58 : decode cX0_outline 58 = .ok (.aload_n 0, 1) := by decide +kernel
theorem dX0_outline_59 : decode cX0_outline 59 = .ok (.getfield 26, 3) := by decide +kernel
theorem dX0_outline_62 : decode cX0_outline 62 = .ok (.iload 6, 2) := by decide +kernel
theorem dX0_outline_64 : decode cX0_outline 64 = .ok (.iaload, 1) := by decide +kernel
theorem dX0_outline_65 : decode cX0_outline 65 = .ok (.ixor, 1) := by decide +kernel
theorem dX0_outline_66 : decode cX0_outline 66 = .ok (.invokevirtual 58, 3) := by decide +kernel
theorem dX0_outline_69 : decode cX0_outline 69 = .ok (.iadd, 1) := by decide +kernel
theorem dX0_outline_70 : decode cX0_outline 70 = .ok (.istore 4, 2) := by decide +kernel
theorem dX0_outline_72 : decode cX0_outline 72 = .ok (.iload 4, 2) := by decide +kernel
theorem dX0_outline_74 : decode cX0_outline 74 = .ok (.aload_n 0, 1) := by decide +kernel
theorem dX0_outline_75 : decode cX0_outline 75 = .ok (.iload 6, 2) := by decide +kernel
theorem dX0_outline_77 : decode cX0_outline 77 = .ok (.invokevirtual 54, 3) := by decide +kernel
theorem dX0_outline_80 : decode cX0_outline 80 = .ok (.aload_n 0, 1) := by decide +kernel
end
section
set_option maxRecDepth 100000
theorem dX0_outline_81 : decode cX0_outline 81 = .ok (.aload_n 0, 1) := by decide +kernel
theorem dX0_outline_82 : decode cX0_outline 82 = .ok (.getfield 26, 3) := by decide +kernel
theorem dX0_outline_85 : decode cX0_outline 85 = .ok (.iload 6, 2) := by decide +kernel
theorem dX0_outline_87 : decode cX0_outline 87 = .ok (.iaload, 1) := by decide +kernel
theorem dX0_outline_88 : decode cX0_outline 88 = .ok (.aload_n 0, 1) := by decide +kernel
theorem dX0_outline_89 : decode cX0_outline 89 = .ok (.getfield 26, 3) := by decide +kernel
theorem dX0_outline_92 : decode cX0_outline 92 = .ok (.iload 6, 2) := by decide +kernel
theorem dX0_outline_94 : decode cX0_outline 94 = .ok (.iaload, 1) := by decide +kernel
theorem dX0_outline_95 : decode cX0_outline 95 = .ok (.iconst 1, 1) := by decide +kernel
theorem dX0_outline_96 : decode cX0_outline 96 = .ok (.ishl, 1) := by decide +kernel
theorem dX0_outline_97 : decode cX0_outline 97 = .ok (.ixor, 1) := by decide +kernel
theorem dX0_outline_98 : decode cX0_outline 98 = .ok (.invokevirtual 58, 3) := by decide +kernel
theorem dX0_outline_101 : decode cX0_outline 101 = .ok (.imul, 1) := by decide +kernel
theorem dX0_outline_102 : decode cX0_outline 102 = .ok (.iadd, 1) := by decide +kernel
theorem dX0_outline_103 : decode cX0_outline 103 = .ok (.istore 4, 2) := by decide +kernel
theorem dX0_outline_105 : decode cX0_outline 105 = .ok (.aload_n 0, 1) := by decide +kernel
theorem dX0_outline_106 : decode cX0_outline 106 = .ok (.getfield 26, 3) := by decide +kernel
theorem dX0_outline_109 : decode cX0_outline 109 = .ok (.iload 6, 2) := by decide +kernel
theorem dX0_outline_111 : decode cX0_outline 111 = .ok (.iaload, 1) := by decide +kernel
theorem dX0_outline_112 : decode cX0_outline 112 = .ok (.istore 5, 2) := by decide +kernel
theorem dX0_outline_114 : decode cX0_outline 114 = .ok (.iinc 6 1, 3) := by decide +kernel
theorem dX0_outline_117 : decode cX0_outline 117 = .ok (.goto (-73), 3) := by decide +kernel
theorem dX0_outline_120 : decode cX0_outline 120 = .ok (.iload 4, 2) := by decide +kernel
theorem dX0_outline_122 : decode cX0_outline 122 = .ok (.aload_n 0, 1) := by decide +kernel
theorem dX0_outline_123 : decode cX0_outline 123 = .ok (.iload 5, 2) := by decide +kernel
theorem dX0_outline_125 : decode cX0_outline 125 = .ok (.invokevirtual 58, 3) := by decide +kernel
theorem dX0_outline_128 : decode cX0_outline 128 = .ok (.iadd, 1) := by decide +kernel
theorem dX0_outline_129 : decode cX0_outline 129 = .ok (.ireturn, 1) := by decide +kernel
theorem dX0_corners_0 : decode cX0_corners 0 = .ok (.iload_n 1, 1) := by decide +kernel
theorem dX0_corners_1 : decode cX0_corners 1 = .ok (.ifCond .lt 24, 3) := by decide +kernel
theorem dX0_corners_4 : decode cX0_corners 4 = .ok (.iload_n 1, 1) := by decide +kernel
theorem dX0_corners_5 : decode cX0_corners 5 = .ok (.iconst 2, 1) := by decide +kernel
theorem dX0_corners_6 : decode cX0_corners 6 = .ok (.if_icmp .gt 19, 3) := by decide +kernel
theorem dX0_corners_9 : decode cX0_corners 9 = .ok (.aload_n 0, 1) := by decide +kernel
theorem dX0_corners_10 : decode cX0_corners 10 = .ok (.iload_n 2, 1) := by decide +kernel
theorem dX0_corners_11 : decode cX0_corners 11 = .ok (.invokevirtual 39, 3) := by decide +kernel
theorem dX0_corners_14 : decode cX0_corners 14 = .ok (.ifCond .eq 11, 3) := by decide +kernel
theorem dX0_corners_17 : decode cX0_corners 17 = .ok (.aload_n 0, 1) := by decide +kernel
theorem dX0_corners_18 : decode cX0_corners 18 = .ok (.iload_n 3, 1) := by decide +kernel
theorem dX0_corners_19 : decode cX0_corners 19 = .ok (.invokevirtual 39, 3) := by decide +kernel
theorem dX0_corners_22 : decode cX0_corners 22 = .ok (.ifCond .ne 6, 3) := by decide +kernel
theorem dX0_corners_25 : decode cX0_corners 25 = .ok (.bipush (-2), 2) := by decide +kernel
theorem dX0_corners_27 : decode cX0_corners 27 = .ok (.ireturn, 1) := by decide +kernel
theorem dX0_corners_28 : decode cX0_corners 28 = .ok (.aload_n 0, 1) := by decide +kernel
theorem dX0_corners_29 : decode cX0_corners 29 = .ok (.iload_n 1, 1) := by decide +kernel
theorem dX0_corners_30 : decode cX0_corners 30 = .ok (.iload_n 2, 1) := by decide +kernel
theorem dX0_corners_31 : decode cX0_corners 31 = .ok (.iload_n 3, 1) := by decide +kernel
theorem dX0_corners_32 : decode cX0_corners 32 = .ok (.invokevirtual 46, 3) := by decide +kernel
theorem dX0_corners_35 : decode cX0_corners 35 = .ok (.iconst 0, 1) := by decide +kernel
theorem dX0_corners_36 : decode cX0_corners 36 = .ok (.istore 4, 2) := by decide +kernel
theorem dX0_corners_38 : decode cX0_corners 38 = .ok (.iconst 0, 1) := by decide +kernel
theorem dX0_corners_39 : decode cX0_corners 39 = .ok (.istore 5, 2) := by decide +kernel
theorem dX0_corners_41 : decode cX0_corners 41 = .ok (.iconst 0, 1) := by decide +kernel
theorem dX0_corners_42 : decode cX0_corners 42 = .ok (.istore 6, 2) := by decide +kernel
theorem dX0_corners_44 : decode cX0_corners 44 = .ok (.iload 6, 2) := by decide +kernel
theorem dX0_corners_46 : decode cX0_corners 46 = .ok (.aload_n 0, 1) := by decide +kernel
theorem dX0_corners_47 : decode cX0_corners 47 = .ok (.getfield 50, 3) := by decide +kernel
theorem dX0_corners_50 : decode cX0_corners 50 = .ok (.if_icmp .gt 82, 3) := by decide +kernel
theorem dX0_corners_53 : decode cX0_corners 53 = .ok (.iload 6, 2) := by decide +kernel
theorem dX0_corners_55 : decode cX0_corners 55 = .ok (.aload_n 0, 1) := by decide +kernel
theorem dX0_corners_56 : decode cX0_corners 56 = .ok (.getfield 50, 3) := by decide +kernel
theorem dX0_corners_59 : decode cX0_corners 59 = .ok (.if_icmp .ge 13, 3) := by decide +kernel
theorem dX0_corners_62 : decode cX0_corners 62 = .ok (.aload_n 0, 1) := by decide +kernel
theorem dX0_corners_63 : decode cX0_corners 63 = .ok (.getfield 26, 3) := by decide +kernel
theorem dX0_corners_66 : decode cX0_corners 66 = .ok (.iload 6, 2) := by decide +kernel
theorem dX0_corners_68 : decode cX0_corners 68 = .ok (.iaload, 1) := by decide +kernel
theorem dX0_corners_69 : decode cX0_corners 69 = .ok (.goto 4, 3) := by decide +kernel
theorem dX0_corners_72 : decode cX0_corners 72 = .ok (.iconst 0, 1) := by decide +kernel
theorem dX0_corners_73 : decode cX0_corners 73 = .ok (.istore 7, 2) := by decide +kernel
theorem dX0_corners_75 : decode cX0_corners 75 = .ok (.iload 5, 2) := by decide +kernel
theorem dX0_corners_77 : decode cX0_corners 77 = .ok (.iload 7, 2) := by decide +kernel
theorem dX0_corners_79 : decode cX0_corners 79 = .ok (.ixor, 1) := by decide +kernel
theorem dX0_corners_80 : decode cX0_corners 80 = .ok (.istore 8, 2) := by decide +kernel
theorem dX0_corners_82 : decode cX0_corners 82 = .ok (.iload 8, 2) := by decide +kernel
theorem dX0_corners_84 : decode cX0_corners 84 = .ok (.iload 8, 2) := by decide +kernel
theorem dX0_corners_86 : decode cX0_corners 86 = .ok (.iconst 1, 1) := by decide +kernel
theorem dX0_corners_87 : decode cX0_corners 87 = .ok (.ishl, 1) := by decide +kernel
theorem dX0_corners_88 : decode cX0_corners 88 = .ok (.ixor, 1) := by decide +kernel
theorem dX0_corners_89 : decode cX0_corners 89 = .ok (.istore 9, 2) := by decide +kernel
theorem dX0_corners_91 : decode cX0_corners 91 = .ok (.iload 5, 2) := by decide +kernel
theorem dX0_corners_93 : decode cX0_corners 93 = .ok (.iload 5, 2) := by decide +kernel
theorem dX0_corners_95 : decode cX0_corners 95 = .ok (.iconst 1, 1) := by decide +kernel
theorem dX0_corners_96 : decode cX0_corners 96 = .ok (.ishl, 1) := by decide +kernel
theorem dX0_corners_97 : decode cX0_corners 97 = .ok (.ixor, 1) := by decide +kernel
theorem dX0_corners_98 : decode cX0_corners 98 = .ok (.iload 7, 2) := by decide +kernel
theorem dX0_corners_100 : decode cX0_corners 100 = .ok (.ixor, 1) := by decide +kernel
theorem dX0_corners_101 : decode cX0_corners 101 = .ok (.iload 7, 2) := by decide +kernel
theorem dX0_corners_103 : decode cX0_corners 103 = .ok (.iconst 1, 1) := by decide +kernel
theorem dX0_corners_104 : decode cX0_corners 104 = .ok (.ishl, 1) := by decide +kernel
theorem dX0_corners_105 : decode cX0_corners 105 = .ok (.ixor, 1) := by decide +kernel
theorem dX0_corners_106 : decode cX0_corners 106 = .ok (.istore 10, 2) := by decide +kernel
theorem dX0_corners_108 : decode cX0_corners 108 = .ok (.iload 4, 2) := by decide +kernel
theorem dX0_corners_110 : decode cX0_corners 110 = .ok (.aload_n 0, 1) := by decide +kernel
theorem dX0_corners_111 : decode cX0_corners 111 = .ok (.iload 9, 2) := by decide +kernel
theorem dX0_corners_113 : decode cX0_corners 113 = .ok (.iload 10, 2) := by decide +kernel
theorem dX0_corners_115 : decode cX0_corners 115 = .ok (.iand, 1) := by decide +kernel
theorem dX0_corners_116 : decode cX0_corners 116 = .ok (.invokevirtual 58, 3) := by decide +kernel
theorem dX0_corners_119 : decode cX0_corners 119 = .ok (.iadd, 1) := by decide +kernel
theorem dX0_corners_120 : decode cX0_corners 120 = .ok (.istore 4, 2) := by decide +kernel
theorem dX0_corners_122 : decode cX0_corners 122 = .ok (.iload 7, 2) := by decide +kernel
theorem dX0_corners_124 : decode cX0_corners 124 = .ok (.istore 5, 2) := by decide +kernel
theorem dX0_corners_126 : decode cX0_corners 126 = .ok (.iinc 6 1, 3) := by decide +kernel
theorem dX0_corners_129 : decode cX0_corners 129 = .ok (.goto (-85), 3) := by decide +kernel
theorem dX0_corners_132 : decode cX0_corners 132 = .ok (.iload 4, 2) := by decide +kernel
theorem dX0_corners_134 : decode cX0_corners 134 = .ok (.ireturn, 1) := by decide +kernel
theorem dX0_thin_0 : decode cX0_thin 0 = .ok (.aload_n 0, 1) := by decide +kernel
theorem dX0_thin_1 : decode cX0_thin 1 = .ok (.iload_n 1, 1) := by decide +kernel
theorem dX0_thin_2 : decode cX0_thin 2 = .ok (.invokevirtual 39, 3) := by decide +kernel
theorem dX0_thin_5 : decode cX0_thin 5 = .ok (.ifCond .eq 14, 3) := by decide +kernel
theorem dX0_thin_8 : decode cX0_thin 8 = .ok (.iload_n 2, 1) := by decide +kernel
theorem dX0_thin_9 : decode cX0_thin 9 = .ok (.iconst 1, 1) := by decide +kernel
theorem dX0_thin_10 : decode cX0_thin 10 = .ok (.if_icmp .lt 9, 3) := by decide +kernel
theorem dX0_thin_13 : decode cX0_thin 13 = .ok (.iload_n 2, 1) := by decide +kernel
theorem dX0_thin_14 : decode cX0_thin 14 = .ok (.bipush 8, 2) := by decide +kernel
theorem dX0_thin_16 : decode cX0_thin 16 = .ok (.if_icmp .le 6, 3) := by decide +kernel
theorem dX0_thin_19 : decode cX0_thin 19 = .ok (.bipush (-2), 2) := by decide +kernel
theorem dX0_thin_21 : decode cX0_thin 21 = .ok (.ireturn, 1) := by decide +kernel
theorem dX0_thin_22 : decode cX0_thin 22 = .ok (.aload_n 0, 1) := by decide +kernel
theorem dX0_thin_23 : decode cX0_thin 23 = .ok (.iconst 1, 1) := by decide +kernel
theorem dX0_thin_24 : decode cX0_thin 24 = .ok (.iload_n 1, 1) := by decide +kernel
theorem dX0_thin_25 : decode cX0_thin 25 = .ok (.iload_n 1, 1) := by decide +kernel
theorem dX0_thin_26 : decode cX0_thin 26 = .ok (.invokevirtual 46, 3) := by decide +kernel
theorem dX0_thin_29 : decode cX0_thin 29 = .ok (.iconst 0, 1) := by decide +kernel
theorem dX0_thin_30 : decode cX0_thin 30 = .ok (.istore_n 3, 1) := by decide +kernel
theorem dX0_thin_31 : decode cX0_thin 31 = .ok (.iload_n 3, 1) := by decide +kernel
theorem dX0_thin_32 : decode cX0_thin 32 = .ok (.aload_n 0, 1) := by decide +kernel
theorem dX0_thin_33 : decode cX0_thin 33 = .ok (.getfield 50, 3) := by decide +kernel
theorem dX0_thin_36 : decode cX0_thin 36 = .ok (.if_icmp .ge 27, 3) := by decide +kernel
theorem dX0_thin_39 : decode cX0_thin 39 = .ok (.aload_n 0, 1) := by decide +kernel
theorem dX0_thin_40 : decode cX0_thin 40 = .ok (.getfield 29, 3) := by decide +kernel
theorem dX0_thin_43 : decode cX0_thin 43 = .ok (.iload_n 3, 1) := by decide +kernel
theorem dX0_thin_44 : decode cX0_thin 44 = .ok (.aload_n 0, 1) := by decide +kernel
theorem dX0_thin_45 : decode cX0_thin 45 = .ok (.aload_n 0, 1) := by decide +kernel
theorem dX0_thin_46 : decode cX0_thin 46 = .ok (.getfield 26, 3) := by decide +kernel
theorem dX0_thin_49 : decode cX0_thin 49 = .ok (.iload_n 3, 1) := by decide +kernel
theorem dX0_thin_50 : decode cX0_thin 50 = .ok (.iaload, 1) := by decide +kernel
theorem dX0_thin_51 : decode cX0_thin 51 = .ok (.iload_n 2, 1) := by decide +kernel
theorem dX0_thin_52 : decode cX0_thin 52 = .ok (.iconst 0, 1) := by decide +kernel
theorem dX0_thin_53 : decode cX0_thin 53 = .ok (.invokevirtual 61, 3) := by decide +kernel
theorem dX0_thin_56 : decode cX0_thin 56 = .ok (.iastore, 1) := by decide +kernel
theorem dX0_thin_57 : decode cX0_thin 57 = .ok (.iinc 3 1, 3) := by decide +kernel
theorem dX0_thin_60 : decode cX0_thin 60 = .ok (.goto (-29), 3) := by decide +kernel
theorem dX0_thin_63 : decode cX0_thin 63 = .ok (.aload_n 0, 1) := by decide +kernel
theorem dX0_thin_64 : decode cX0_thin 64 = .ok (.iload_n 2, 1) := by decide +kernel
theorem dX0_thin_65 : decode cX0_thin 65 = .ok (.iconst 0, 1) := by decide +kernel
theorem dX0_thin_66 : decode cX0_thin 66 = .ok (.invokevirtual 65, 3) := by decide +kernel
theorem dX0_thin_69 : decode cX0_thin 69 = .ok (.aload_n 0, 1) := by decide +kernel
theorem dX0_thin_70 : decode cX0_thin 70 = .ok (.invokevirtual 69, 3) := by decide +kernel
theorem dX0_thin_73 : decode cX0_thin 73 = .ok (.ireturn, 1) := by decide +kernel
theorem dX0_shortRuns_0 : decode cX0_shortRuns 0 = .ok (.iconst 0, 1) := by decide +kernel
theorem dX0_shortRuns_1 : decode cX0_shortRuns 1 = .ok (.istore 4, 2) := by decide +kernel
theorem dX0_shortRuns_3 : decode cX0_shortRuns 3 = .ok (.iconst 0, 1) := by decide +kernel
theorem dX0_shortRuns_4 : decode cX0_shortRuns 4 = .ok (.istore 5, 2) := by decide +kernel
theorem dX0_shortRuns_6 : decode cX0_shortRuns 6 = .ok (.iload 5, 2) := by decide +kernel
theorem dX0_shortRuns_8 : decode cX0_shortRuns 8 = .ok (.bipush 16, 2) := by decide +kernel
theorem dX0_shortRuns_10 : decode cX0_shortRuns 10 = .ok (.if_icmp .ge 96, 3) := by decide +kernel
theorem dX0_shortRuns_13 : decode cX0_shortRuns 13 = .ok (.iload 5, 2) := by decide +kernel
theorem dX0_shortRuns_15 : decode cX0_shortRuns 15 = .ok (.istore 6, 2) := by decide +kernel
theorem dX0_shortRuns_17 : decode cX0_shortRuns 17 = .ok (.iload 6, 2) := by decide +kernel
theorem dX0_shortRuns_19 : decode cX0_shortRuns 19 = .ok (.bipush 16, 2) := by decide +kernel
theorem dX0_shortRuns_21 : decode cX0_shortRuns 21 = .ok (.if_icmp .ge 18, 3) := by decide +kernel
theorem dX0_shortRuns_24 : decode cX0_shortRuns 24 = .ok (.iload_n 1, 1) := by decide +kernel
theorem dX0_shortRuns_25 : decode cX0_shortRuns 25 = .ok (.iload 6, 2) := by decide +kernel
theorem dX0_shortRuns_27 : decode cX0_shortRuns 27 = .ok (.ishr, 1) := by decide +kernel
theorem dX0_shortRuns_28 : decode cX0_shortRuns 28 = .ok (.iconst 1, 1) := by decide +kernel
theorem dX0_shortRuns_29 : decode cX0_shortRuns 29 = .ok (.iand, 1) := by decide +kernel
theorem dX0_shortRuns_30 : decode cX0_shortRuns 30 = .ok (.ifCond .eq 9, 3) := by decide +kernel
theorem dX0_shortRuns_33 : decode cX0_shortRuns 33 = .ok (.iinc 6 1, 3) := by decide +kernel
theorem dX0_shortRuns_36 : decode cX0_shortRuns 36 = .ok (.goto (-19), 3) := by decide +kernel
theorem dX0_shortRuns_39 : decode cX0_shortRuns 39 = .ok (.iload 5, 2) := by decide +kernel
theorem dX0_shortRuns_41 : decode cX0_shortRuns 41 = .ok (.ifCond .eq 10, 3) := by decide +kernel
theorem dX0_shortRuns_44 : decode cX0_shortRuns 44 = .ok (.iload 6, 2) := by decide +kernel
theorem dX0_shortRuns_46 : decode cX0_shortRuns 46 = .ok (.bipush 16, 2) := by decide +kernel
theorem dX0_shortRuns_48 : decode cX0_shortRuns 48 = .ok (.if_icmp .ne 7, 3) := by decide +kernel
theorem dX0_shortRuns_51 : decode cX0_shortRuns 51 = .ok (.iconst 1, 1) := by decide +kernel
theorem dX0_shortRuns_52 : decode cX0_shortRuns 52 = .ok (.goto 4, 3) := by decide +kernel
theorem dX0_shortRuns_55 : decode cX0_shortRuns 55 = .ok (.iconst 0, 1) := by decide +kernel
theorem dX0_shortRuns_56 : decode cX0_shortRuns 56 = .ok (.istore 7, 2) := by decide +kernel
theorem dX0_shortRuns_58 : decode cX0_shortRuns 58 = .ok (.iload 6, 2) := by decide +kernel
theorem dX0_shortRuns_60 : decode cX0_shortRuns 60 = .ok (.iload 5, 2) := by decide +kernel
theorem dX0_shortRuns_62 : decode cX0_shortRuns 62 = .ok (.if_icmp .le 35, 3) := by decide +kernel
theorem dX0_shortRuns_65 : decode cX0_shortRuns 65 = .ok (.iload 6, 2) := by decide +kernel
theorem dX0_shortRuns_67 : decode cX0_shortRuns 67 = .ok (.iload 5, 2) := by decide +kernel
theorem dX0_shortRuns_69 : decode cX0_shortRuns 69 = .ok (.isub, 1) := by decide +kernel
theorem dX0_shortRuns_70 : decode cX0_shortRuns 70 = .ok (.iload_n 2, 1) := by decide +kernel
theorem dX0_shortRuns_71 : decode cX0_shortRuns 71 = .ok (.if_icmp .ge 26, 3) := by decide +kernel
theorem dX0_shortRuns_74 : decode cX0_shortRuns 74 = .ok (.iload_n 3, 1) := by decide +kernel
theorem dX0_shortRuns_75 : decode cX0_shortRuns 75 = .ok (.ifCond .eq 8, 3) := by decide +kernel
theorem dX0_shortRuns_78 : decode cX0_shortRuns 78 = .ok (.iload 7, 2) := by decide +kernel
theorem dX0_shortRuns_80 : decode cX0_shortRuns 80 = .ok (.ifCond .ne 17, 3) := by decide +kernel
theorem dX0_shortRuns_83 : decode cX0_shortRuns 83 = .ok (.iload 4, 2) := by decide +kernel
theorem dX0_shortRuns_85 : decode cX0_shortRuns 85 = .ok (.iconst 1, 1) := by decide +kernel
theorem dX0_shortRuns_86 : decode cX0_shortRuns 86 = .ok (.iload 6, 2) := by decide +kernel
theorem dX0_shortRuns_88 : decode cX0_shortRuns 88 = .ok (.ishl, 1) := by decide +kernel
theorem dX0_shortRuns_89 : decode cX0_shortRuns 89 = .ok (.iconst 1, 1) := by decide +kernel
theorem dX0_shortRuns_90 : decode cX0_shortRuns 90 = .ok (.iload 5, 2) := by decide +kernel
theorem dX0_shortRuns_92 : decode cX0_shortRuns 92 = .ok (.ishl, 1) := by decide +kernel
theorem dX0_shortRuns_93 : decode cX0_shortRuns 93 = .ok (.isub, 1) := by decide +kernel
theorem dX0_shortRuns_94 : decode cX0_shortRuns 94 = .ok (.ior, 1) := by decide +kernel
theorem dX0_shortRuns_95 : decode cX0_shortRuns 95 = .ok (.istore 4, 2) := by decide +kernel
theorem dX0_shortRuns_97 : decode cX0_shortRuns 97 = .ok (.iload 6, 2) := by decide +kernel
theorem dX0_shortRuns_99 : decode cX0_shortRuns 99 = .ok (.iconst 1, 1) := by decide +kernel
theorem dX0_shortRuns_100 : decode cX0_shortRuns 100 = .ok (.iadd, 1) := by decide +kernel
theorem dX0_shortRuns_101 : decode cX0_shortRuns 101 = .ok (.istore 5, 2) := by decide +kernel
theorem dX0_shortRuns_103 : decode cX0_shortRuns 103 = .ok (.goto (-97), 3) := by decide +kernel
theorem dX0_shortRuns_106 : decode cX0_shortRuns 106 = .ok (.iload 4, 2) := by decide +kernel
theorem dX0_shortRuns_108 : decode cX0_shortRuns 108 = .ok (.ireturn, 1) := by decide +kernel
theorem dX0_markShortRows_0 : decode cX0_markShortRows 0 = .ok (.iconst 0, 1) := by decide +kernel
theorem dX0_markShortRows_1 : decode cX0_markShortRows 1 = .ok (.istore_n 3, 1) := by decide +kernel
theorem dX0_markShortRows_2 : decode cX0_markShortRows 2 = .ok (.iload_n 3, 1) := by decide +kernel
theorem dX0_markShortRows_3 : decode cX0_markShortRows 3 = .ok (.bipush 16, 2) := by decide +kernel
theorem dX0_markShortRows_5 : decode cX0_markShortRows 5 = .ok (.if_icmp .ge 35, 3) := by decide +kernel
theorem dX0_markShortRows_8 : decode cX0_markShortRows 8 = .ok (.iconst 0, 1) := by decide +kernel
theorem dX0_markShortRows_9 : decode cX0_markShortRows 9 = .ok (.istore 4, 2) := by decide +kernel
theorem dX0_markShortRows_11 : decode cX0_markShortRows 11 = .ok (.iload 4, 2) := by decide +kernel
theorem dX0_markShortRows_13 : decode cX0_markShortRows 13 = .ok (.aload_n 0, 1) := by decide +kernel
theorem dX0_markShortRows_14 : decode cX0_markShortRows 14 = .ok (.getfield 50, 3) := by decide +kernel
theorem dX0_markShortRows_17 : decode cX0_markShortRows 17 = .ok (.if_icmp .ge 17, 3) := by decide +kernel
theorem dX0_markShortRows_20 : decode cX0_markShortRows 20 = .ok (.aload_n 0, 1) := by decide +kernel
theorem dX0_markShortRows_21 : decode cX0_markShortRows 21 = .ok (.iload_n 3, 1) := by decide +kernel
theorem dX0_markShortRows_22 : decode cX0_markShortRows 22 = .ok (.iload 4, 2) := by decide +kernel
theorem dX0_markShortRows_24 : decode cX0_markShortRows 24 = .ok (.iload_n 1, 1) := by decide +kernel
theorem dX0_markShortRows_25 : decode cX0_markShortRows 25 = .ok (.iload_n 2, 1) := by decide +kernel
theorem dX0_markShortRows_26 : decode cX0_markShortRows 26 = .ok (.invokevirtual 84, 3) := by decide +kernel
theorem dX0_markShortRows_29 : decode cX0_markShortRows 29 = .ok (.istore 4, 2) := by decide +kernel
theorem dX0_markShortRows_31 : decode cX0_markShortRows 31 = .ok (.goto (-20), 3) := by decide +kernel
theorem dX0_markShortRows_34 : decode cX0_markShortRows 34 = .ok (.iinc 3 1, 3) := by decide +kernel
theorem dX0_markShortRows_37 : decode cX0_markShortRows 37 = .ok (.goto (-35), 3) := by decide +kernel
theorem dX0_markShortRows_40 : decode cX0_markShortRows 40 = .ok (.return_, 1) := by decide +kernel
theorem dX0_markRun_0 : decode cX0_markRun 0 = .ok (.iload 4, 2) := by decide +kernel
theorem dX0_markRun_2 : decode cX0_markRun 2 = .ok (.ifCond .eq 7, 3) := by decide +kernel
theorem dX0_markRun_5 : decode cX0_markRun 5 = .ok (.iconst 0, 1) := by decide +kernel
theorem dX0_markRun_6 : decode cX0_markRun 6 = .ok (.goto 4, 3) := by decide +kernel
theorem dX0_markRun_9 : decode cX0_markRun 9 = .ok (.iconst 1, 1) := by decide +kernel
theorem dX0_markRun_10 : decode cX0_markRun 10 = .ok (.istore 5, 2) := by decide +kernel
theorem dX0_markRun_12 : decode cX0_markRun 12 = .ok (.iload_n 2, 1) := by decide +kernel
theorem dX0_markRun_13 : decode cX0_markRun 13 = .ok (.istore 6, 2) := by decide +kernel
theorem dX0_markRun_15 : decode cX0_markRun 15 = .ok (.iload 6, 2) := by decide +kernel
theorem dX0_markRun_17 : decode cX0_markRun 17 = .ok (.aload_n 0, 1) := by decide +kernel
theorem dX0_markRun_18 : decode cX0_markRun 18 = .ok (.getfield 50, 3) := by decide +kernel
theorem dX0_markRun_21 : decode cX0_markRun 21 = .ok (.if_icmp .ge 25, 3) := by decide +kernel
theorem dX0_markRun_24 : decode cX0_markRun 24 = .ok (.aload_n 0, 1) := by decide +kernel
theorem dX0_markRun_25 : decode cX0_markRun 25 = .ok (.getfield 26, 3) := by decide +kernel
theorem dX0_markRun_28 : decode cX0_markRun 28 = .ok (.iload 6, 2) := by decide +kernel
theorem dX0_markRun_30 : decode cX0_markRun 30 = .ok (.iaload, 1) := by decide +kernel
theorem dX0_markRun_31 : decode cX0_markRun 31 = .ok (.iload_n 1, 1) := by decide +kernel
theorem dX0_markRun_32 : decode cX0_markRun 32 = .ok (.ishr, 1) := by decide +kernel
theorem dX0_markRun_33 : decode cX0_markRun 33 = .ok (.iconst 1, 1) := by decide +kernel
theorem dX0_markRun_34 : decode cX0_markRun 34 = .ok (.iand, 1) := by decide +kernel
theorem dX0_markRun_35 : decode cX0_markRun 35 = .ok (.iload 5, 2) := by decide +kernel
theorem dX0_markRun_37 : decode cX0_markRun 37 = .ok (.if_icmp .ne 9, 3) := by decide +kernel
theorem dX0_markRun_40 : decode cX0_markRun 40 = .ok (.iinc 6 1, 3) := by decide +kernel
theorem dX0_markRun_43 : decode cX0_markRun 43 = .ok (.goto (-28), 3) := by decide +kernel
theorem dX0_markRun_46 : decode cX0_markRun 46 = .ok (.iload 6, 2) := by decide +kernel
theorem dX0_markRun_48 : decode cX0_markRun 48 = .ok (.iload_n 2, 1) := by decide +kernel
theorem dX0_markRun_49 : decode cX0_markRun 49 = .ok (.if_icmp .ne 7, 3) := by decide +kernel
theorem dX0_markRun_52 : decode cX0_markRun 52 = .ok (.iload_n 2, 1) := by decide +kernel
theorem dX0_markRun_53 : decode cX0_markRun 53 = .ok (.iconst 1, 1) := by decide +kernel
theorem dX0_markRun_54 : decode cX0_markRun 54 = .ok (.iadd, 1) := by decide +kernel
theorem dX0_markRun_55 : decode cX0_markRun 55 = .ok (.ireturn, 1) := by decide +kernel
theorem dX0_markRun_56 : decode cX0_markRun 56 = .ok (.iload_n 2, 1) := by decide +kernel
theorem dX0_markRun_57 : decode cX0_markRun 57 = .ok (.ifCond .eq 12, 3) := by decide +kernel
theorem dX0_markRun_60 : decode cX0_markRun 60 = .ok (.iload 6, 2) := by decide +kernel
theorem dX0_markRun_62 : decode cX0_markRun 62 = .ok (.aload_n 0, 1) := by decide +kernel
theorem dX0_markRun_63 : decode cX0_markRun 63 = .ok (.getfield 50, 3) := by decide +kernel
theorem dX0_markRun_66 : decode cX0_markRun 66 = .ok (.if_icmp .ne 7, 3) := by decide +kernel
theorem dX0_markRun_69 : decode cX0_markRun 69 = .ok (.iconst 1, 1) := by decide +kernel
theorem dX0_markRun_70 : decode cX0_markRun 70 = .ok (.goto 4, 3) := by decide +kernel
theorem dX0_markRun_73 : decode cX0_markRun 73 = .ok (.iconst 0, 1) := by decide +kernel
theorem dX0_markRun_74 : decode cX0_markRun 74 = .ok (.istore 7, 2) := by decide +kernel
theorem dX0_markRun_76 : decode cX0_markRun 76 = .ok (.aload_n 0, 1) := by decide +kernel
theorem dX0_markRun_77 : decode cX0_markRun 77 = .ok (.getfield 23, 3) := by decide +kernel
theorem dX0_markRun_80 : decode cX0_markRun 80 = .ok (.iload 6, 2) := by decide +kernel
theorem dX0_markRun_82 : decode cX0_markRun 82 = .ok (.baload, 1) := by decide +kernel
theorem dX0_markRun_83 : decode cX0_markRun 83 = .ok (.aload_n 0, 1) := by decide +kernel
theorem dX0_markRun_84 : decode cX0_markRun 84 = .ok (.getfield 23, 3) := by decide +kernel
theorem dX0_markRun_87 : decode cX0_markRun 87 = .ok (.iload_n 2, 1) := by decide +kernel
theorem dX0_markRun_88 : decode cX0_markRun 88 = .ok (.baload, 1) := by decide +kernel
theorem dX0_markRun_89 : decode cX0_markRun 89 = .ok (.isub, 1) := by decide +kernel
theorem dX0_markRun_90 : decode cX0_markRun 90 = .ok (.iload_n 3, 1) := by decide +kernel
theorem dX0_markRun_91 : decode cX0_markRun 91 = .ok (.if_icmp .ge 42, 3) := by decide +kernel
theorem dX0_markRun_94 : decode cX0_markRun 94 = .ok (.iload 4, 2) := by decide +kernel
theorem dX0_markRun_96 : decode cX0_markRun 96 = .ok (.ifCond .eq 8, 3) := by decide +kernel
theorem dX0_markRun_99 : decode cX0_markRun 99 = .ok (.iload 7, 2) := by decide +kernel
theorem dX0_markRun_101 : decode cX0_markRun 101 = .ok (.ifCond .ne 32, 3) := by decide +kernel
theorem dX0_markRun_104 : decode cX0_markRun 104 = .ok (.iload_n 2, 1) := by decide +kernel
theorem dX0_markRun_105 : decode cX0_markRun 105 = .ok (.istore 8, 2) := by decide +kernel
theorem dX0_markRun_107 : decode cX0_markRun 107 = .ok (.iload 8, 2) := by decide +kernel
theorem dX0_markRun_109 : decode cX0_markRun 109 = .ok (.iload 6, 2) := by decide +kernel
theorem dX0_markRun_111 : decode cX0_markRun 111 = .ok (.if_icmp .ge 22, 3) := by decide +kernel
theorem dX0_markRun_114 : decode cX0_markRun 114 = .ok (.aload_n 0, 1) := by decide +kernel
theorem dX0_markRun_115 : decode cX0_markRun 115 = .ok (.getfield 29, 3) := by decide +kernel
theorem dX0_markRun_118 : decode cX0_markRun 118 = .ok (.iload 8, 2) := by decide +kernel
theorem dX0_markRun_120 : decode cX0_markRun 120 = .ok (.dup2, 1) := by decide +kernel
theorem dX0_markRun_121 : decode cX0_markRun 121 = .ok (.iaload, 1) := by decide +kernel
theorem dX0_markRun_122 : decode cX0_markRun 122 = .ok (.iconst 1, 1) := by decide +kernel
theorem dX0_markRun_123 : decode cX0_markRun 123 = .ok (.iload_n 1, 1) := by decide +kernel
theorem dX0_markRun_124 : decode cX0_markRun 124 = .ok (.ishl, 1) := by decide +kernel
theorem dX0_markRun_125 : decode cX0_markRun 125 = .ok (.ior, 1) := by decide +kernel
theorem dX0_markRun_126 : decode cX0_markRun 126 = .ok (.iastore, 1) := by decide +kernel
theorem dX0_markRun_127 : decode cX0_markRun 127 = .ok (.iinc 8 1, 3) := by decide +kernel
theorem dX0_markRun_130 : decode cX0_markRun 130 = .ok (.goto (-23), 3) := by decide +kernel
theorem dX0_markRun_133 : decode cX0_markRun 133 = .ok (.iload 6, 2) := by decide +kernel
theorem dX0_markRun_135 : decode cX0_markRun 135 = .ok (.ireturn, 1) := by decide +kernel
theorem dX0_markedArea_0 : decode cX0_markedArea 0 = .ok (.iconst 0, 1) := by decide +kernel
theorem dX0_markedArea_1 : decode cX0_markedArea 1 = .ok (.istore_n 1, 1) := by decide +kernel
theorem dX0_markedArea_2 : decode cX0_markedArea 2 = .ok (.iconst 0, 1) := by decide +kernel
theorem dX0_markedArea_3 : decode cX0_markedArea 3 = .ok (.istore_n 2, 1) := by decide +kernel
theorem dX0_markedArea_4 : decode cX0_markedArea 4 = .ok (.iload_n 2, 1) := by decide +kernel
theorem dX0_markedArea_5 : decode cX0_markedArea 5 = .ok (.aload_n 0, 1) := by decide +kernel
theorem dX0_markedArea_6 : decode cX0_markedArea 6 = .ok (.getfield 50, 3) := by decide +kernel
theorem dX0_markedArea_9 : decode cX0_markedArea 9 = .ok (.if_icmp .ge 28, 3) := by decide +kernel
theorem dX0_markedArea_12 : decode cX0_markedArea 12 = .ok (.iload_n 1, 1) := by decide +kernel
theorem dX0_markedArea_13 : decode cX0_markedArea 13 = .ok (.aload_n 0, 1) := by decide +kernel
theorem dX0_markedArea_14 : decode cX0_markedArea 14 = .ok (.iload_n 2, 1) := by decide +kernel
theorem dX0_markedArea_15 : decode cX0_markedArea 15 = .ok (.invokevirtual 54, 3) := by decide +kernel
theorem dX0_markedArea_18 : decode cX0_markedArea 18 = .ok (.aload_n 0, 1) := by decide +kernel
theorem dX0_markedArea_19 : decode cX0_markedArea 19 = .ok (.aload_n 0, 1) := by decide +kernel
theorem dX0_markedArea_20 : decode cX0_markedArea 20 = .ok (.getfield 29, 3) := by decide +kernel
theorem dX0_markedArea_23 : decode cX0_markedArea 23 = .ok (.iload_n 2, 1) := by decide +kernel
theorem dX0_markedArea_24 : decode cX0_markedArea 24 = .ok (.iaload, 1) := by decide +kernel
theorem dX0_markedArea_25 : decode cX0_markedArea 25 = .ok (.invokevirtual 58, 3) := by decide +kernel
theorem dX0_markedArea_28 : decode cX0_markedArea 28 = .ok (.imul, 1) := by decide +kernel
theorem dX0_markedArea_29 : decode cX0_markedArea 29 = .ok (.iadd, 1) := by decide +kernel
theorem dX0_markedArea_30 : decode cX0_markedArea 30 = .ok (.istore_n 1, 1) := by decide +kernel
theorem dX0_markedArea_31 : decode cX0_markedArea 31 = .ok (.iinc 2 1, 3) := by decide +kernel
theorem dX0_markedArea_34 : decode cX0_markedArea 34 = .ok (.goto (-30), 3) := by decide +kernel
theorem dX0_markedArea_37 : decode cX0_markedArea 37 = .ok (.iload_n 1, 1) := by decide +kernel
theorem dX0_markedArea_38 : decode cX0_markedArea 38 = .ok (.ireturn, 1) := by decide +kernel
theorem dX0_gaps_0 : decode cX0_gaps 0 = .ok (.aload_n 0, 1) := by decide +kernel
theorem dX0_gaps_1 : decode cX0_gaps 1 = .ok (.iload_n 1, 1) := by decide +kernel
theorem dX0_gaps_2 : decode cX0_gaps 2 = .ok (.invokevirtual 39, 3) := by decide +kernel
theorem dX0_gaps_5 : decode cX0_gaps 5 = .ok (.ifCond .eq 14, 3) := by decide +kernel
theorem dX0_gaps_8 : decode cX0_gaps 8 = .ok (.iload_n 2, 1) := by decide +kernel
theorem dX0_gaps_9 : decode cX0_gaps 9 = .ok (.iconst 1, 1) := by decide +kernel
theorem dX0_gaps_10 : decode cX0_gaps 10 = .ok (.if_icmp .lt 9, 3) := by decide +kernel
theorem dX0_gaps_13 : decode cX0_gaps 13 = .ok (.iload_n 2, 1) := by decide +kernel
theorem dX0_gaps_14 : decode cX0_gaps 14 = .ok (.bipush 8, 2) := by decide +kernel
theorem dX0_gaps_16 : decode cX0_gaps 16 = .ok (.if_icmp .le 6, 3) := by decide +kernel
theorem dX0_gaps_19 : decode cX0_gaps 19 = .ok (.bipush (-2), 2) := by decide +kernel
theorem dX0_gaps_21 : decode cX0_gaps 21 = .ok (.ireturn, 1) := by decide +kernel
theorem dX0_gaps_22 : decode cX0_gaps 22 = .ok (.aload_n 0, 1) := by decide +kernel
theorem dX0_gaps_23 : decode cX0_gaps 23 = .ok (.iconst 1, 1) := by decide +kernel
theorem dX0_gaps_24 : decode cX0_gaps 24 = .ok (.iload_n 1, 1) := by decide +kernel
theorem dX0_gaps_25 : decode cX0_gaps 25 = .ok (.iload_n 1, 1) := by decide +kernel
theorem dX0_gaps_26 : decode cX0_gaps 26 = .ok (.invokevirtual 46, 3) := by decide +kernel
theorem dX0_gaps_29 : decode cX0_gaps 29 = .ok (.iconst 0, 1) := by decide +kernel
theorem dX0_gaps_30 : decode cX0_gaps 30 = .ok (.istore_n 3, 1) := by decide +kernel
theorem dX0_gaps_31 : decode cX0_gaps 31 = .ok (.iload_n 3, 1) := by decide +kernel
theorem dX0_gaps_32 : decode cX0_gaps 32 = .ok (.aload_n 0, 1) := by decide +kernel
theorem dX0_gaps_33 : decode cX0_gaps 33 = .ok (.getfield 50, 3) := by decide +kernel
theorem dX0_gaps_36 : decode cX0_gaps 36 = .ok (.if_icmp .ge 32, 3) := by decide +kernel
theorem dX0_gaps_39 : decode cX0_gaps 39 = .ok (.aload_n 0, 1) := by decide +kernel
theorem dX0_gaps_40 : decode cX0_gaps 40 = .ok (.getfield 29, 3) := by decide +kernel
theorem dX0_gaps_43 : decode cX0_gaps 43 = .ok (.iload_n 3, 1) := by decide +kernel
theorem dX0_gaps_44 : decode cX0_gaps 44 = .ok (.aload_n 0, 1) := by decide +kernel
theorem dX0_gaps_45 : decode cX0_gaps 45 = .ok (.aload_n 0, 1) := by decide +kernel
theorem dX0_gaps_46 : decode cX0_gaps 46 = .ok (.getfield 26, 3) := by decide +kernel
theorem dX0_gaps_49 : decode cX0_gaps 49 = .ok (.iload_n 3, 1) := by decide +kernel
theorem dX0_gaps_50 : decode cX0_gaps 50 = .ok (.iaload, 1) := by decide +kernel
theorem dX0_gaps_51 : decode cX0_gaps 51 = .ok (.iconst (-1), 1) := by decide +kernel
theorem dX0_gaps_52 : decode cX0_gaps 52 = .ok (.ixor, 1) := by decide +kernel
theorem dX0_gaps_53 : decode cX0_gaps 53 = .ok (.ldc 73, 2) := by decide +kernel
theorem dX0_gaps_55 : decode cX0_gaps 55 = .ok (.iand, 1) := by decide +kernel
theorem dX0_gaps_56 : decode cX0_gaps 56 = .ok (.iload_n 2, 1) := by decide +kernel
theorem dX0_gaps_57 : decode cX0_gaps 57 = .ok (.iconst 1, 1) := by decide +kernel
theorem dX0_gaps_58 : decode cX0_gaps 58 = .ok (.invokevirtual 61, 3) := by decide +kernel
theorem dX0_gaps_61 : decode cX0_gaps 61 = .ok (.iastore, 1) := by decide +kernel
theorem dX0_gaps_62 : decode cX0_gaps 62 = .ok (.iinc 3 1, 3) := by decide +kernel
theorem dX0_gaps_65 : decode cX0_gaps 65 = .ok (.goto (-34), 3) := by decide +kernel
theorem dX0_gaps_68 : decode cX0_gaps 68 = .ok (.aload_n 0, 1) := by decide +kernel
theorem dX0_gaps_69 : decode cX0_gaps 69 = .ok (.iload_n 2, 1) := by decide +kernel
theorem dX0_gaps_70 : decode cX0_gaps 70 = .ok (.iconst 1, 1) := by decide +kernel
theorem dX0_gaps_71 : decode cX0_gaps 71 = .ok (.invokevirtual 65, 3) := by decide +kernel
theorem dX0_gaps_74 : decode cX0_gaps 74 = .ok (.aload_n 0, 1) := by decide +kernel
theorem dX0_gaps_75 : decode cX0_gaps 75 = .ok (.invokevirtual 69, 3) := by decide +kernel
theorem dX0_gaps_78 : decode cX0_gaps 78 = .ok (.ireturn, 1) := by decide +kernel
theorem dX0_enclosure_0 : decode cX0_enclosure 0 = .ok (.aload_n 0, 1) := by decide +kernel
theorem dX0_enclosure_1 : decode cX0_enclosure 1 = .ok (.iload_n 1, 1) := by decide +kernel
theorem dX0_enclosure_2 : decode cX0_enclosure 2 = .ok (.invokevirtual 39, 3) := by decide +kernel
theorem dX0_enclosure_5 : decode cX0_enclosure 5 = .ok (.ifCond .eq 11, 3) := by decide +kernel
theorem dX0_enclosure_8 : decode cX0_enclosure 8 = .ok (.aload_n 0, 1) := by decide +kernel
theorem dX0_enclosure_9 : decode cX0_enclosure 9 = .ok (.iload_n 2, 1) := by decide +kernel
theorem dX0_enclosure_10 : decode cX0_enclosure 10 = .ok (.invokevirtual 39, 3) := by decide +kernel
theorem dX0_enclosure_13 : decode cX0_enclosure 13 = .ok (.ifCond .ne 6, 3) := by decide +kernel
theorem dX0_enclosure_16 : decode cX0_enclosure 16 = .ok (.bipush (-2), 2) := by decide +kernel
theorem dX0_enclosure_18 : decode cX0_enclosure 18 = .ok (.ireturn, 1) := by decide +kernel
theorem dX0_enclosure_19 : decode cX0_enclosure 19 = .ok (.iconst 0, 1) := by decide +kernel
theorem dX0_enclosure_20 : decode cX0_enclosure 20 = .ok (.istore_n 3, 1) := by decide +kernel
theorem dX0_enclosure_21 : decode cX0_enclosure 21 = .ok (.iload_n 3, 1) := by decide +kernel
theorem dX0_enclosure_22 : decode cX0_enclosure 22 = .ok (.bipush 16, 2) := by decide +kernel
theorem dX0_enclosure_24 : decode cX0_enclosure 24 = .ok (.if_icmp .ge 21, 3) := by decide +kernel
theorem dX0_enclosure_27 : decode cX0_enclosure 27 = .ok (.aload_n 0, 1) := by decide +kernel
theorem dX0_enclosure_28 : decode cX0_enclosure 28 = .ok (.getfield 32, 3) := by decide +kernel
theorem dX0_enclosure_31 : decode cX0_enclosure 31 = .ok (.iload_n 3, 1) := by decide +kernel
theorem dX0_enclosure_32 : decode cX0_enclosure 32 = .ok (.aload_n 0, 1) := by decide +kernel
theorem dX0_enclosure_33 : decode cX0_enclosure 33 = .ok (.iload_n 2, 1) := by decide +kernel
theorem dX0_enclosure_34 : decode cX0_enclosure 34 = .ok (.iload_n 3, 1) := by decide +kernel
theorem dX0_enclosure_35 : decode cX0_enclosure 35 = .ok (.invokevirtual 42, 3) := by decide +kernel
theorem dX0_enclosure_38 : decode cX0_enclosure 38 = .ok (.iastore, 1) := by decide +kernel
theorem dX0_enclosure_39 : decode cX0_enclosure 39 = .ok (.iinc 3 1, 3) := by decide +kernel
theorem dX0_enclosure_42 : decode cX0_enclosure 42 = .ok (.goto (-21), 3) := by decide +kernel
theorem dX0_enclosure_45 : decode cX0_enclosure 45 = .ok (.iconst (-1), 1) := by decide +kernel
theorem dX0_enclosure_46 : decode cX0_enclosure 46 = .ok (.istore_n 3, 1) := by decide +kernel
theorem dX0_enclosure_47 : decode cX0_enclosure 47 = .ok (.iload_n 3, 1) := by decide +kernel
theorem dX0_enclosure_48 : decode cX0_enclosure 48 = .ok (.bipush 8, 2) := by decide +kernel
theorem dX0_enclosure_50 : decode cX0_enclosure 50 = .ok (.if_icmp .ge 21, 3) := by decide +kernel
theorem dX0_enclosure_53 : decode cX0_enclosure 53 = .ok (.aload_n 0, 1) := by decide +kernel
theorem dX0_enclosure_54 : decode cX0_enclosure 54 = .ok (.iload_n 1, 1) := by decide +kernel
theorem dX0_enclosure_55 : decode cX0_enclosure 55 = .ok (.invokevirtual 74, 3) := by decide +kernel
theorem dX0_enclosure_58 : decode cX0_enclosure 58 = .ok (.ifCond .eq 13, 3) := by decide +kernel
theorem dX0_enclosure_61 : decode cX0_enclosure 61 = .ok (.iinc 3 1, 3) := by decide +kernel
theorem dX0_enclosure_64 : decode cX0_enclosure 64 = .ok (.aload_n 0, 1) := by decide +kernel
theorem dX0_enclosure_65 : decode cX0_enclosure 65 = .ok (.invokevirtual 77, 3) := by decide +kernel
theorem dX0_enclosure_68 : decode cX0_enclosure 68 = .ok (.goto (-21), 3) := by decide +kernel
theorem dX0_enclosure_71 : decode cX0_enclosure 71 = .ok (.iload_n 3, 1) := by decide +kernel
theorem dX0_enclosure_72 : decode cX0_enclosure 72 = .ok (.ireturn, 1) := by decide +kernel
theorem dX0_isWithin_0 : decode cX0_isWithin 0 = .ok (.iconst 0, 1) := by decide +kernel
theorem dX0_isWithin_1 : decode cX0_isWithin 1 = .ok (.istore_n 2, 1) := by decide +kernel
theorem dX0_isWithin_2 : decode cX0_isWithin 2 = .ok (.iload_n 2, 1) := by decide +kernel
theorem dX0_isWithin_3 : decode cX0_isWithin 3 = .ok (.bipush 16, 2) := by decide +kernel
theorem dX0_isWithin_5 : decode cX0_isWithin 5 = .ok (.if_icmp .ge 31, 3) := by decide +kernel
theorem dX0_isWithin_8 : decode cX0_isWithin 8 = .ok (.aload_n 0, 1) := by decide +kernel
theorem dX0_isWithin_9 : decode cX0_isWithin 9 = .ok (.iload_n 1, 1) := by decide +kernel
theorem dX0_isWithin_10 : decode cX0_isWithin 10 = .ok (.iload_n 2, 1) := by decide +kernel
theorem dX0_isWithin_11 : decode cX0_isWithin 11 = .ok (.invokevirtual 42, 3) := by decide +kernel
theorem dX0_isWithin_14 : decode cX0_isWithin 14 = .ok (.istore_n 3, 1) := by decide +kernel
theorem dX0_isWithin_15 : decode cX0_isWithin 15 = .ok (.aload_n 0, 1) := by decide +kernel
theorem dX0_isWithin_16 : decode cX0_isWithin 16 = .ok (.getfield 32, 3) := by decide +kernel
theorem dX0_isWithin_19 : decode cX0_isWithin 19 = .ok (.iload_n 2, 1) := by decide +kernel
theorem dX0_isWithin_20 : decode cX0_isWithin 20 = .ok (.iaload, 1) := by decide +kernel
theorem dX0_isWithin_21 : decode cX0_isWithin 21 = .ok (.iload_n 3, 1) := by decide +kernel
theorem dX0_isWithin_22 : decode cX0_isWithin 22 = .ok (.iconst (-1), 1) := by decide +kernel
theorem dX0_isWithin_23 : decode cX0_isWithin 23 = .ok (.ixor, 1) := by decide +kernel
theorem dX0_isWithin_24 : decode cX0_isWithin 24 = .ok (.iand, 1) := by decide +kernel
theorem dX0_isWithin_25 : decode cX0_isWithin 25 = .ok (.ifCond .eq 5, 3) := by decide +kernel
theorem dX0_isWithin_28 : decode cX0_isWithin 28 = .ok (.iconst 0, 1) := by decide +kernel
theorem dX0_isWithin_29 : decode cX0_isWithin 29 = .ok (.ireturn, 1) := by decide +kernel
theorem dX0_isWithin_30 : decode cX0_isWithin 30 = .ok (.iinc 2 1, 3) := by decide +kernel
theorem dX0_isWithin_33 : decode cX0_isWithin 33 = .ok (.goto (-31), 3) := by decide +kernel
theorem dX0_isWithin_36 : decode cX0_isWithin 36 = .ok (.iconst 1, 1) := by decide +kernel
theorem dX0_isWithin_37 : decode cX0_isWithin 37 = .ok (.ireturn, 1) := by decide +kernel
theorem dX0_widen_0 : decode cX0_widen 0 = .ok (.iconst 0, 1) := by decide +kernel
theorem dX0_widen_1 : decode cX0_widen 1 = .ok (.istore_n 1, 1) := by decide +kernel
theorem dX0_widen_2 : decode cX0_widen 2 = .ok (.iload_n 1, 1) := by decide +kernel
theorem dX0_widen_3 : decode cX0_widen 3 = .ok (.bipush 16, 2) := by decide +kernel
theorem dX0_widen_5 : decode cX0_widen 5 = .ok (.if_icmp .ge 38, 3) := by decide +kernel
theorem dX0_widen_8 : decode cX0_widen 8 = .ok (.aload_n 0, 1) := by decide +kernel
theorem dX0_widen_9 : decode cX0_widen 9 = .ok (.getfield 32, 3) := by decide +kernel
theorem dX0_widen_12 : decode cX0_widen 12 = .ok (.iload_n 1, 1) := by decide +kernel
theorem dX0_widen_13 : decode cX0_widen 13 = .ok (.dup2, 1) := by decide +kernel
theorem dX0_widen_14 : decode cX0_widen 14 = .ok (.iaload, 1) := by decide +kernel
theorem dX0_widen_15 : decode cX0_widen 15 = .ok (.aload_n 0, 1) := by decide +kernel
theorem dX0_widen_16 : decode cX0_widen 16 = .ok (.getfield 32, 3) := by decide +kernel
theorem dX0_widen_19 : decode cX0_widen 19 = .ok (.iload_n 1, 1) := by decide +kernel
theorem dX0_widen_20 : decode cX0_widen 20 = .ok (.iaload, 1) := by decide +kernel
theorem dX0_widen_21 : decode cX0_widen 21 = .ok (.iconst 1, 1) := by decide +kernel
theorem dX0_widen_22 : decode cX0_widen 22 = .ok (.ishl, 1) := by decide +kernel
theorem dX0_widen_23 : decode cX0_widen 23 = .ok (.aload_n 0, 1) := by decide +kernel
theorem dX0_widen_24 : decode cX0_widen 24 = .ok (.getfield 32, 3) := by decide +kernel
theorem dX0_widen_27 : decode cX0_widen 27 = .ok (.iload_n 1, 1) := by decide +kernel
theorem dX0_widen_28 : decode cX0_widen 28 = .ok (.iaload, 1) := by decide +kernel
theorem dX0_widen_29 : decode cX0_widen 29 = .ok (.iconst 1, 1) := by decide +kernel
theorem dX0_widen_30 : decode cX0_widen 30 = .ok (.ishr, 1) := by decide +kernel
theorem dX0_widen_31 : decode cX0_widen 31 = .ok (.ior, 1) := by decide +kernel
theorem dX0_widen_32 : decode cX0_widen 32 = .ok (.ldc 73, 2) := by decide +kernel
theorem dX0_widen_34 : decode cX0_widen 34 = .ok (.iand, 1) := by decide +kernel
theorem dX0_widen_35 : decode cX0_widen 35 = .ok (.ior, 1) := by decide +kernel
theorem dX0_widen_36 : decode cX0_widen 36 = .ok (.iastore, 1) := by decide +kernel
theorem dX0_widen_37 : decode cX0_widen 37 = .ok (.iinc 1 1, 3) := by decide +kernel
theorem dX0_widen_40 : decode cX0_widen 40 = .ok (.goto (-38), 3) := by decide +kernel
theorem dX0_widen_43 : decode cX0_widen 43 = .ok (.iconst 0, 1) := by decide +kernel
theorem dX0_widen_44 : decode cX0_widen 44 = .ok (.istore_n 1, 1) := by decide +kernel
theorem dX0_widen_45 : decode cX0_widen 45 = .ok (.iconst 0, 1) := by decide +kernel
theorem dX0_widen_46 : decode cX0_widen 46 = .ok (.istore_n 2, 1) := by decide +kernel
theorem dX0_widen_47 : decode cX0_widen 47 = .ok (.iload_n 2, 1) := by decide +kernel
theorem dX0_widen_48 : decode cX0_widen 48 = .ok (.bipush 16, 2) := by decide +kernel
theorem dX0_widen_50 : decode cX0_widen 50 = .ok (.if_icmp .ge 51, 3) := by decide +kernel
theorem dX0_widen_53 : decode cX0_widen 53 = .ok (.aload_n 0, 1) := by decide +kernel
theorem dX0_widen_54 : decode cX0_widen 54 = .ok (.getfield 32, 3) := by decide +kernel
theorem dX0_widen_57 : decode cX0_widen 57 = .ok (.iload_n 2, 1) := by decide +kernel
theorem dX0_widen_58 : decode cX0_widen 58 = .ok (.iaload, 1) := by decide +kernel
theorem dX0_widen_59 : decode cX0_widen 59 = .ok (.istore_n 3, 1) := by decide +kernel
theorem dX0_widen_60 : decode cX0_widen 60 = .ok (.aload_n 0, 1) := by decide +kernel
theorem dX0_widen_61 : decode cX0_widen 61 = .ok (.getfield 32, 3) := by decide +kernel
theorem dX0_widen_64 : decode cX0_widen 64 = .ok (.iload_n 2, 1) := by decide +kernel
theorem dX0_widen_65 : decode cX0_widen 65 = .ok (.dup2, 1) := by decide +kernel
theorem dX0_widen_66 : decode cX0_widen 66 = .ok (.iaload, 1) := by decide +kernel
theorem dX0_widen_67 : decode cX0_widen 67 = .ok (.iload_n 1, 1) := by decide +kernel
theorem dX0_widen_68 : decode cX0_widen 68 = .ok (.ior, 1) := by decide +kernel
theorem dX0_widen_69 : decode cX0_widen 69 = .ok (.iastore, 1) := by decide +kernel
theorem dX0_widen_70 : decode cX0_widen 70 = .ok (.iload_n 2, 1) := by decide +kernel
theorem dX0_widen_71 : decode cX0_widen 71 = .ok (.bipush 15, 2) := by decide +kernel
theorem dX0_widen_73 : decode cX0_widen 73 = .ok (.if_icmp .ge 20, 3) := by decide +kernel
theorem dX0_widen_76 : decode cX0_widen 76 = .ok (.aload_n 0, 1) := by decide +kernel
theorem dX0_widen_77 : decode cX0_widen 77 = .ok (.getfield 32, 3) := by decide +kernel
theorem dX0_widen_80 : decode cX0_widen 80 = .ok (.iload_n 2, 1) := by decide +kernel
theorem dX0_widen_81 : decode cX0_widen 81 = .ok (.dup2, 1) := by decide +kernel
theorem dX0_widen_82 : decode cX0_widen 82 = .ok (.iaload, 1) := by decide +kernel
theorem dX0_widen_83 : decode cX0_widen 83 = .ok (.aload_n 0, 1) := by decide +kernel
theorem dX0_widen_84 : decode cX0_widen 84 = .ok (.getfield 32, 3) := by decide +kernel
theorem dX0_widen_87 : decode cX0_widen 87 = .ok (.iload_n 2, 1) := by decide +kernel
theorem dX0_widen_88 : decode cX0_widen 88 = .ok (.iconst 1, 1) := by decide +kernel
theorem dX0_widen_89 : decode cX0_widen 89 = .ok (.iadd, 1) := by decide +kernel
theorem dX0_widen_90 : decode cX0_widen 90 = .ok (.iaload, 1) := by decide +kernel
theorem dX0_widen_91 : decode cX0_widen 91 = .ok (.ior, 1) := by decide +kernel
theorem dX0_widen_92 : decode cX0_widen 92 = .ok (.iastore, 1) := by decide +kernel
theorem dX0_widen_93 : decode cX0_widen 93 = .ok (.iload_n 3, 1) := by decide +kernel
theorem dX0_widen_94 : decode cX0_widen 94 = .ok (.istore_n 1, 1) := by decide +kernel
theorem dX0_widen_95 : decode cX0_widen 95 = .ok (.iinc 2 1, 3) := by decide +kernel
theorem dX0_widen_98 : decode cX0_widen 98 = .ok (.goto (-51), 3) := by decide +kernel
theorem dX0_widen_101 : decode cX0_widen 101 = .ok (.return_, 1) := by decide +kernel
end
section
set_option maxRecDepth 100000
theorem dX1_init_0 : decode cX1_init 0 = .ok (.aload_n 0, 1) := by decide +kernel
theorem dX1_init_1 : decode cX1_init 1 = .ok (.invokespecial 1, 3) := by decide +kernel
theorem dX1_init_4 : decode cX1_init 4 = .ok (.aload_n 0, 1) := by decide +kernel
theorem dX1_init_5 : decode cX1_init 5 = .ok (.iconst 3, 1) := by decide +kernel
theorem dX1_init_6 : decode cX1_init 6 = .ok (.newarray .int, 2) := by decide +kernel
theorem dX1_init_8 : decode cX1_init 8 = .ok (.putfield 7, 3) := by decide +kernel
theorem dX1_init_11 : decode cX1_init 11 = .ok (.aload_n 0, 1) := by decide +kernel
theorem dX1_init_12 : decode cX1_init 12 = .ok (.bipush 30, 2) := by decide +kernel
theorem dX1_init_14 : decode cX1_init 14 = .ok (.newarray .int, 2) := by decide +kernel
theorem dX1_init_16 : decode cX1_init 16 = .ok (.putfield 13, 3) := by decide +kernel
theorem dX1_init_19 : decode cX1_init 19 = .ok (.aload_n 0, 1) := by decide +kernel
theorem dX1_init_20 : decode cX1_init 20 = .ok (.bipush 30, 2) := by decide +kernel
theorem dX1_init_22 : decode cX1_init 22 = .ok (.newarray .int, 2) := by decide +kernel
theorem dX1_init_24 : decode cX1_init 24 = .ok (.putfield 16, 3) := by decide +kernel
theorem dX1_init_27 : decode cX1_init 27 = .ok (.aload_n 0, 1) := by decide +kernel
theorem dX1_init_28 : decode cX1_init 28 = .ok (.bipush 30, 2) := by decide +kernel
theorem dX1_init_30 : decode cX1_init 30 = .ok (.newarray .int, 2) := by decide +kernel
theorem dX1_init_32 : decode cX1_init 32 = .ok (.putfield 19, 3) := by decide +kernel
theorem dX1_init_35 : decode cX1_init 35 = .ok (.aload_n 0, 1) := by decide +kernel
theorem dX1_init_36 : decode cX1_init 36 = .ok (.bipush 30, 2) := by decide +kernel
theorem dX1_init_38 : decode cX1_init 38 = .ok (.newarray .int, 2) := by decide +kernel
theorem dX1_init_40 : decode cX1_init 40 = .ok (.putfield 22, 3) := by decide +kernel
theorem dX1_init_43 : decode cX1_init 43 = .ok (.aload_n 0, 1) := by decide +kernel
theorem dX1_init_44 : decode cX1_init 44 = .ok (.sipush 256, 3) := by decide +kernel
theorem dX1_init_47 : decode cX1_init 47 = .ok (.newarray .boolean, 2) := by decide +kernel
theorem dX1_init_49 : decode cX1_init 49 = .ok (.putfield 25, 3) := by decide +kernel
theorem dX1_init_52 : decode cX1_init 52 = .ok (.return_, 1) := by decide +kernel
theorem dX1_add_0 : decode cX1_add 0 = .ok (.aload_n 0, 1) := by decide +kernel
theorem dX1_add_1 : decode cX1_add 1 = .ok (.iload_n 1, 1) := by decide +kernel
theorem dX1_add_2 : decode cX1_add 2 = .ok (.invokevirtual 29, 3) := by decide +kernel
theorem dX1_add_5 : decode cX1_add 5 = .ok (.ifCond .eq 11, 3) := by decide +kernel
theorem dX1_add_8 : decode cX1_add 8 = .ok (.iload_n 2, 1) := by decide +kernel
theorem dX1_add_9 : decode cX1_add 9 = .ok (.ifCond .lt 7, 3) := by decide +kernel
theorem dX1_add_12 : decode cX1_add 12 = .ok (.iload_n 3, 1) := by decide +kernel
theorem dX1_add_13 : decode cX1_add 13 = .ok (.ifCond .ge 6, 3) := by decide +kernel
theorem dX1_add_16 : decode cX1_add 16 = .ok (.bipush (-2), 2) := by decide +kernel
theorem dX1_add_18 : decode cX1_add 18 = .ok (.ireturn, 1) := by decide +kernel
theorem dX1_add_19 : decode cX1_add 19 = .ok (.iload_n 2, 1) := by decide +kernel
theorem dX1_add_20 : decode cX1_add 20 = .ok (.bipush 32, 2) := by decide +kernel
theorem dX1_add_22 : decode cX1_add 22 = .ok (.idiv, 1) := by decide +kernel
theorem dX1_add_23 : decode cX1_add 23 = .ok (.iload_n 2, 1) := by decide +kernel
theorem dX1_add_24 : decode cX1_add 24 = .ok (.bipush 32, 2) := by decide +kernel
theorem dX1_add_26 : decode cX1_add 26 = .ok (.irem, 1) := by decide +kernel
theorem dX1_add_27 : decode cX1_add 27 = .ok (.if_icmp .ge 32, 3) := by decide +kernel
theorem dX1_add_30 : decode cX1_add 30 = .ok (.iload_n 2, 1) := by decide +kernel
theorem dX1_add_31 : decode cX1_add 31 = .ok (.bipush 32, 2) := by decide +kernel
theorem dX1_add_33 : decode cX1_add 33 = .ok (.irem, 1) := by decide +kernel
theorem dX1_add_34 : decode cX1_add 34 = .ok (.bipush 16, 2) := by decide +kernel
theorem dX1_add_36 : decode cX1_add 36 = .ok (.if_icmp .gt 23, 3) := by decide +kernel
theorem dX1_add_39 : decode cX1_add 39 = .ok (.iload_n 3, 1) := by decide +kernel
theorem dX1_add_40 : decode cX1_add 40 = .ok (.bipush 32, 2) := by decide +kernel
theorem dX1_add_42 : decode cX1_add 42 = .ok (.idiv, 1) := by decide +kernel
theorem dX1_add_43 : decode cX1_add 43 = .ok (.iload_n 3, 1) := by decide +kernel
theorem dX1_add_44 : decode cX1_add 44 = .ok (.bipush 32, 2) := by decide +kernel
theorem dX1_add_46 : decode cX1_add 46 = .ok (.irem, 1) := by decide +kernel
theorem dX1_add_47 : decode cX1_add 47 = .ok (.if_icmp .ge 12, 3) := by decide +kernel
theorem dX1_add_50 : decode cX1_add 50 = .ok (.iload_n 3, 1) := by decide +kernel
theorem dX1_add_51 : decode cX1_add 51 = .ok (.bipush 32, 2) := by decide +kernel
theorem dX1_add_53 : decode cX1_add 53 = .ok (.irem, 1) := by decide +kernel
theorem dX1_add_54 : decode cX1_add 54 = .ok (.bipush 16, 2) := by decide +kernel
theorem dX1_add_56 : decode cX1_add 56 = .ok (.if_icmp .le 6, 3) := by decide +kernel
theorem dX1_add_59 : decode cX1_add 59 = .ok (.bipush (-2), 2) := by decide +kernel
theorem dX1_add_61 : decode cX1_add 61 = .ok (.ireturn, 1) := by decide +kernel
theorem dX1_add_62 : decode cX1_add 62 = .ok (.aload_n 0, 1) := by decide +kernel
theorem dX1_add_63 : decode cX1_add 63 = .ok (.getfield 7, 3) := by decide +kernel
theorem dX1_add_66 : decode cX1_add 66 = .ok (.iload_n 1, 1) := by decide +kernel
theorem dX1_add_67 : decode cX1_add 67 = .ok (.iaload, 1) := by decide +kernel
theorem dX1_add_68 : decode cX1_add 68 = .ok (.bipush 10, 2) := by decide +kernel
theorem dX1_add_70 : decode cX1_add 70 = .ok (.if_icmp .ne 6, 3) := by decide +kernel
theorem dX1_add_73 : decode cX1_add 73 = .ok (.bipush (-3), 2) := by decide +kernel
theorem dX1_add_75 : decode cX1_add 75 = .ok (.ireturn, 1) := by decide +kernel
theorem dX1_add_76 : decode cX1_add 76 = .ok (.bipush 10, 2) := by decide +kernel
theorem dX1_add_78 : decode cX1_add 78 = .ok (.iload_n 1, 1) := by decide +kernel
theorem dX1_add_79 : decode cX1_add 79 = .ok (.imul, 1) := by decide +kernel
theorem dX1_add_80 : decode cX1_add 80 = .ok (.aload_n 0, 1) := by decide +kernel
theorem dX1_add_81 : decode cX1_add 81 = .ok (.getfield 7, 3) := by decide +kernel
theorem dX1_add_84 : decode cX1_add 84 = .ok (.iload_n 1, 1) := by decide +kernel
theorem dX1_add_85 : decode cX1_add 85 = .ok (.iaload, 1) := by decide +kernel
theorem dX1_add_86 : decode cX1_add 86 = .ok (.iadd, 1) := by decide +kernel
theorem dX1_add_87 : decode cX1_add 87 = .ok (.istore 4, 2) := by decide +kernel
theorem dX1_add_89 : decode cX1_add 89 = .ok (.aload_n 0, 1) := by decide +kernel
theorem dX1_add_90 : decode cX1_add 90 = .ok (.getfield 13, 3) := by decide +kernel
theorem dX1_add_93 : decode cX1_add 93 = .ok (.iload 4, 2) := by decide +kernel
theorem dX1_add_95 : decode cX1_add 95 = .ok (.iload_n 2, 1) := by decide +kernel
theorem dX1_add_96 : decode cX1_add 96 = .ok (.bipush 32, 2) := by decide +kernel
theorem dX1_add_98 : decode cX1_add 98 = .ok (.idiv, 1) := by decide +kernel
theorem dX1_add_99 : decode cX1_add 99 = .ok (.iastore, 1) := by decide +kernel
theorem dX1_add_100 : decode cX1_add 100 = .ok (.aload_n 0, 1) := by decide +kernel
theorem dX1_add_101 : decode cX1_add 101 = .ok (.getfield 16, 3) := by decide +kernel
theorem dX1_add_104 : decode cX1_add 104 = .ok (.iload 4, 2) := by decide +kernel
theorem dX1_add_106 : decode cX1_add 106 = .ok (.iload_n 2, 1) := by decide +kernel
theorem dX1_add_107 : decode cX1_add 107 = .ok (.bipush 32, 2) := by decide +kernel
theorem dX1_add_109 : decode cX1_add 109 = .ok (.irem, 1) := by decide +kernel
theorem dX1_add_110 : decode cX1_add 110 = .ok (.iastore, 1) := by decide +kernel
theorem dX1_add_111 : decode cX1_add 111 = .ok (.aload_n 0, 1) := by decide +kernel
theorem dX1_add_112 : decode cX1_add 112 = .ok (.getfield 19, 3) := by decide +kernel
theorem dX1_add_115 : decode cX1_add 115 = .ok (.iload 4, 2) := by decide +kernel
theorem dX1_add_117 : decode cX1_add 117 = .ok (.iload_n 3, 1) := by decide +kernel
theorem dX1_add_118 : decode cX1_add 118 = .ok (.bipush 32, 2) := by decide +kernel
theorem dX1_add_120 : decode cX1_add 120 = .ok (.idiv, 1) := by decide +kernel
theorem dX1_add_121 : decode cX1_add 121 = .ok (.iastore, 1) := by decide +kernel
theorem dX1_add_122 : decode cX1_add 122 = .ok (.aload_n 0, 1) := by decide +kernel
theorem dX1_add_123 : decode cX1_add 123 = .ok (.getfield 22, 3) := by decide +kernel
theorem dX1_add_126 : decode cX1_add 126 = .ok (.iload 4, 2) := by decide +kernel
theorem dX1_add_128 : decode cX1_add 128 = .ok (.iload_n 3, 1) := by decide +kernel
theorem dX1_add_129 : decode cX1_add 129 = .ok (.bipush 32, 2) := by decide +kernel
theorem dX1_add_131 : decode cX1_add 131 = .ok (.irem, 1) := by decide +kernel
theorem dX1_add_132 : decode cX1_add 132 = .ok (.iastore, 1) := by decide +kernel
theorem dX1_add_133 : decode cX1_add 133 = .ok (.aload_n 0, 1) := by decide +kernel
theorem dX1_add_134 : decode cX1_add 134 = .ok (.getfield 7, 3) := by decide +kernel
theorem dX1_add_137 : decode cX1_add 137 = .ok (.iload_n 1, 1) := by decide +kernel
theorem dX1_add_138 : decode cX1_add 138 = .ok (.dup2, 1) := by decide +kernel
theorem dX1_add_139 : decode cX1_add 139 = .ok (.iaload, 1) := by decide +kernel
theorem dX1_add_140 : decode cX1_add 140 = .ok (.iconst 1, 1) := by decide +kernel
theorem dX1_add_141 : decode cX1_add 141 = .ok (.iadd, 1) := by decide +kernel
theorem dX1_add_142 : decode cX1_add 142 = .ok (.iastore, 1) := by decide +kernel
theorem dX1_add_143 : decode cX1_add 143 = .ok (.aload_n 0, 1) := by decide +kernel
theorem dX1_add_144 : decode cX1_add 144 = .ok (.getfield 7, 3) := by decide +kernel
theorem dX1_add_147 : decode cX1_add 147 = .ok (.iload_n 1, 1) := by decide +kernel
theorem dX1_add_148 : decode cX1_add 148 = .ok (.iaload, 1) := by decide +kernel
theorem dX1_add_149 : decode cX1_add 149 = .ok (.ireturn, 1) := by decide +kernel
theorem dX1_isLayer_0 : decode cX1_isLayer 0 = .ok (.iload_n 1, 1) := by decide +kernel
theorem dX1_isLayer_1 : decode cX1_isLayer 1 = .ok (.ifCond .lt 12, 3) := by decide +kernel
theorem dX1_isLayer_4 : decode cX1_isLayer 4 = .ok (.iload_n 1, 1) := by decide +kernel
theorem dX1_isLayer_5 : decode cX1_isLayer 5 = .ok (.iconst 2, 1) := by decide +kernel
theorem dX1_isLayer_6 : decode cX1_isLayer 6 = .ok (.if_icmp .gt 7, 3) := by decide +kernel
theorem dX1_isLayer_9 : decode cX1_isLayer 9 = .ok (.iconst 1, 1) := by decide +kernel
theorem dX1_isLayer_10 : decode cX1_isLayer 10 = .ok (.goto 4, 3) := by decide +kernel
theorem dX1_isLayer_13 : decode cX1_isLayer 13 = .ok (.iconst 0, 1) := by decide +kernel
theorem dX1_isLayer_14 : decode cX1_isLayer 14 = .ok (.ireturn, 1) := by decide +kernel
theorem dX1_drop_0 : decode cX1_drop 0 = .ok (.aload_n 0, 1) := by decide +kernel
theorem dX1_drop_1 : decode cX1_drop 1 = .ok (.iload_n 1, 1) := by decide +kernel
theorem dX1_drop_2 : decode cX1_drop 2 = .ok (.invokevirtual 29, 3) := by decide +kernel
theorem dX1_drop_5 : decode cX1_drop 5 = .ok (.ifCond .eq 12, 3) := by decide +kernel
theorem dX1_drop_8 : decode cX1_drop 8 = .ok (.aload_n 0, 1) := by decide +kernel
theorem dX1_drop_9 : decode cX1_drop 9 = .ok (.getfield 7, 3) := by decide +kernel
theorem dX1_drop_12 : decode cX1_drop 12 = .ok (.iload_n 1, 1) := by decide +kernel
theorem dX1_drop_13 : decode cX1_drop 13 = .ok (.iaload, 1) := by decide +kernel
theorem dX1_drop_14 : decode cX1_drop 14 = .ok (.ifCond .ne 6, 3) := by decide +kernel
theorem dX1_drop_17 : decode cX1_drop 17 = .ok (.bipush (-2), 2) := by decide +kernel
theorem dX1_drop_19 : decode cX1_drop 19 = .ok (.ireturn, 1) := by decide +kernel
theorem dX1_drop_20 : decode cX1_drop 20 = .ok (.bipush 10, 2) := by decide +kernel
theorem dX1_drop_22 : decode cX1_drop 22 = .ok (.iload_n 1, 1) := by decide +kernel
theorem dX1_drop_23 : decode cX1_drop 23 = .ok (.imul, 1) := by decide +kernel
theorem dX1_drop_24 : decode cX1_drop 24 = .ok (.istore_n 2, 1) := by decide +kernel
theorem dX1_drop_25 : decode cX1_drop 25 = .ok (.iload_n 2, 1) := by decide +kernel
theorem dX1_drop_26 : decode cX1_drop 26 = .ok (.bipush 10, 2) := by decide +kernel
theorem dX1_drop_28 : decode cX1_drop 28 = .ok (.iload_n 1, 1) := by decide +kernel
theorem dX1_drop_29 : decode cX1_drop 29 = .ok (.imul, 1) := by decide +kernel
theorem dX1_drop_30 : decode cX1_drop 30 = .ok (.bipush 9, 2) := by decide +kernel
theorem dX1_drop_32 : decode cX1_drop 32 = .ok (.iadd, 1) := by decide +kernel
theorem dX1_drop_33 : decode cX1_drop 33 = .ok (.if_icmp .ge 65, 3) := by decide +kernel
theorem dX1_drop_36 : decode cX1_drop 36 = .ok (.aload_n 0, 1) := by decide +kernel
theorem dX1_drop_37 : decode cX1_drop 37 = .ok (.getfield 13, 3) := by decide +kernel
theorem dX1_drop_40 : decode cX1_drop 40 = .ok (.iload_n 2, 1) := by decide +kernel
theorem dX1_drop_41 : decode cX1_drop 41 = .ok (.aload_n 0, 1) := by decide +kernel
theorem dX1_drop_42 : decode cX1_drop 42 = .ok (.getfield 13, 3) := by decide +kernel
theorem dX1_drop_45 : decode cX1_drop 45 = .ok (.iload_n 2, 1) := by decide +kernel
theorem dX1_drop_46 : decode cX1_drop 46 = .ok (.iconst 1, 1) := by decide +kernel
theorem dX1_drop_47 : decode cX1_drop 47 = .ok (.iadd, 1) := by decide +kernel
theorem dX1_drop_48 : decode cX1_drop 48 = .ok (.iaload, 1) := by decide +kernel
theorem dX1_drop_49 : decode cX1_drop 49 = .ok (.iastore, 1) := by decide +kernel
theorem dX1_drop_50 : decode cX1_drop 50 = .ok (.aload_n 0, 1) := by decide +kernel
theorem dX1_drop_51 : decode cX1_drop 51 = .ok (.getfield 16, 3) := by decide +kernel
theorem dX1_drop_54 : decode cX1_drop 54 = .ok (.iload_n 2, 1) := by decide +kernel
theorem dX1_drop_55 : decode cX1_drop 55 = .ok (.aload_n 0, 1) := by decide +kernel
theorem dX1_drop_56 : decode cX1_drop 56 = .ok (.getfield 16, 3) := by decide +kernel
theorem dX1_drop_59 : decode cX1_drop 59 = .ok (.iload_n 2, 1) := by decide +kernel
theorem dX1_drop_60 : decode cX1_drop 60 = .ok (.iconst 1, 1) := by decide +kernel
theorem dX1_drop_61 : decode cX1_drop 61 = .ok (.iadd, 1) := by decide +kernel
theorem dX1_drop_62 : decode cX1_drop 62 = .ok (.iaload, 1) := by decide +kernel
theorem dX1_drop_63 : decode cX1_drop 63 = .ok (.iastore, 1) := by decide +kernel
theorem dX1_drop_64 : decode cX1_drop 64 = .ok (.aload_n 0, 1) := by decide +kernel
theorem dX1_drop_65 : decode cX1_drop 65 = .ok (.getfield 19, 3) := by decide +kernel
theorem dX1_drop_68 : decode cX1_drop 68 = .ok (.iload_n 2, 1) := by decide +kernel
theorem dX1_drop_69 : decode cX1_drop 69 = .ok (.aload_n 0, 1) := by decide +kernel
theorem dX1_drop_70 : decode cX1_drop 70 = .ok (.getfield 19, 3) := by decide +kernel
theorem dX1_drop_73 : decode cX1_drop 73 = .ok (.iload_n 2, 1) := by decide +kernel
theorem dX1_drop_74 : decode cX1_drop 74 = .ok (.iconst 1, 1) := by decide +kernel
theorem dX1_drop_75 : decode cX1_drop 75 = .ok (.iadd, 1) := by decide +kernel
theorem dX1_drop_76 : decode cX1_drop 76 = .ok (.iaload, 1) := by decide +kernel
theorem dX1_drop_77 : decode cX1_drop 77 = .ok (.iastore, 1) := by decide +kernel
theorem dX1_drop_78 : decode cX1_drop 78 = .ok (.aload_n 0, 1) := by decide +kernel
theorem dX1_drop_79 : decode cX1_drop 79 = .ok (.getfield 22, 3) := by decide +kernel
theorem dX1_drop_82 : decode cX1_drop 82 = .ok (.iload_n 2, 1) := by decide +kernel
theorem dX1_drop_83 : decode cX1_drop 83 = .ok (.aload_n 0, 1) := by decide +kernel
theorem dX1_drop_84 : decode cX1_drop 84 = .ok (.getfield 22, 3) := by decide +kernel
theorem dX1_drop_87 : decode cX1_drop 87 = .ok (.iload_n 2, 1) := by decide +kernel
theorem dX1_drop_88 : decode cX1_drop 88 = .ok (.iconst 1, 1) := by decide +kernel
theorem dX1_drop_89 : decode cX1_drop 89 = .ok (.iadd, 1) := by decide +kernel
theorem dX1_drop_90 : decode cX1_drop 90 = .ok (.iaload, 1) := by decide +kernel
theorem dX1_drop_91 : decode cX1_drop 91 = .ok (.iastore, 1) := by decide +kernel
theorem dX1_drop_92 : decode cX1_drop 92 = .ok (.iinc 2 1, 3) := by decide +kernel
theorem dX1_drop_95 : decode cX1_drop 95 = .ok (.goto (-70), 3) := by decide +kernel
theorem dX1_drop_98 : decode cX1_drop 98 = .ok (.aload_n 0, 1) := by decide +kernel
theorem dX1_drop_99 : decode cX1_drop 99 = .ok (.getfield 7, 3) := by decide +kernel
theorem dX1_drop_102 : decode cX1_drop 102 = .ok (.iload_n 1, 1) := by decide +kernel
theorem dX1_drop_103 : decode cX1_drop 103 = .ok (.dup2, 1) := by decide +kernel
theorem dX1_drop_104 : decode cX1_drop 104 = .ok (.iaload, 1) := by decide +kernel
theorem dX1_drop_105 : decode cX1_drop 105 = .ok (.iconst 1, 1) := by decide +kernel
theorem dX1_drop_106 : decode cX1_drop 106 = .ok (.isub, 1) := by decide +kernel
theorem dX1_drop_107 : decode cX1_drop 107 = .ok (.iastore, 1) := by decide +kernel
theorem dX1_drop_108 : decode cX1_drop 108 = .ok (.aload_n 0, 1) := by decide +kernel
theorem dX1_drop_109 : decode cX1_drop 109 = .ok (.getfield 7, 3) := by decide +kernel
theorem dX1_drop_112 : decode cX1_drop 112 = .ok (.iload_n 1, 1) := by decide +kernel
theorem dX1_drop_113 : decode cX1_drop 113 = .ok (.iaload, 1) := by decide +kernel
theorem dX1_drop_114 : decode cX1_drop 114 = .ok (.ireturn, 1) := by decide +kernel
theorem dX1_covers_0 : decode cX1_covers 0 = .ok (.aload_n 0, 1) := by decide +kernel
theorem dX1_covers_1 : decode cX1_covers 1 = .ok (.iload_n 1, 1) := by decide +kernel
theorem dX1_covers_2 : decode cX1_covers 2 = .ok (.invokevirtual 29, 3) := by decide +kernel
theorem dX1_covers_5 : decode cX1_covers 5 = .ok (.ifCond .eq 37, 3) := by decide +kernel
theorem dX1_covers_8 : decode cX1_covers 8 = .ok (.iload_n 2, 1) := by decide +kernel
theorem dX1_covers_9 : decode cX1_covers 9 = .ok (.ifCond .lt 33, 3) := by decide +kernel
theorem dX1_covers_12 : decode cX1_covers 12 = .ok (.iload_n 2, 1) := by decide +kernel
theorem dX1_covers_13 : decode cX1_covers 13 = .ok (.bipush 15, 2) := by decide +kernel
theorem dX1_covers_15 : decode cX1_covers 15 = .ok (.if_icmp .gt 27, 3) := by decide +kernel
theorem dX1_covers_18 : decode cX1_covers 18 = .ok (.iload_n 3, 1) := by decide +kernel
theorem dX1_covers_19 : decode cX1_covers 19 = .ok (.ifCond .lt 23, 3) := by decide +kernel
theorem dX1_covers_22 : decode cX1_covers 22 = .ok (.iload_n 3, 1) := by decide +kernel
theorem dX1_covers_23 : decode cX1_covers 23 = .ok (.bipush 15, 2) := by decide +kernel
theorem dX1_covers_25 : decode cX1_covers 25 = .ok (.if_icmp .gt 17, 3) := by decide +kernel
theorem dX1_covers_28 : decode cX1_covers 28 = .ok (.aload_n 0, 1) := by decide +kernel
theorem dX1_covers_29 : decode cX1_covers 29 = .ok (.iload_n 1, 1) := by decide +kernel
theorem dX1_covers_30 : decode cX1_covers 30 = .ok (.iload_n 2, 1) := by decide +kernel
theorem dX1_covers_31 : decode cX1_covers 31 = .ok (.iload_n 3, 1) := by decide +kernel
theorem dX1_covers_32 : decode cX1_covers 32 = .ok (.invokevirtual 33, 3) := by decide +kernel
theorem dX1_covers_35 : decode cX1_covers 35 = .ok (.ifCond .eq 7, 3) := by decide +kernel
theorem dX1_covers_38 : decode cX1_covers 38 = .ok (.iconst 1, 1) := by decide +kernel
theorem dX1_covers_39 : decode cX1_covers 39 = .ok (.goto 4, 3) := by decide +kernel
theorem dX1_covers_42 : decode cX1_covers 42 = .ok (.iconst 0, 1) := by decide +kernel
theorem dX1_covers_43 : decode cX1_covers 43 = .ok (.ireturn, 1) := by decide +kernel
theorem dX1_has_0 : decode cX1_has 0 = .ok (.bipush 10, 2) := by decide +kernel
theorem dX1_has_2 : decode cX1_has 2 = .ok (.iload_n 1, 1) := by decide +kernel
theorem dX1_has_3 : decode cX1_has 3 = .ok (.imul, 1) := by decide +kernel
theorem dX1_has_4 : decode cX1_has 4 = .ok (.istore 4, 2) := by decide +kernel
theorem dX1_has_6 : decode cX1_has 6 = .ok (.iload 4, 2) := by decide +kernel
theorem dX1_has_8 : decode cX1_has 8 = .ok (.bipush 10, 2) := by decide +kernel
theorem dX1_has_10 : decode cX1_has 10 = .ok (.iload_n 1, 1) := by decide +kernel
theorem dX1_has_11 : decode cX1_has 11 = .ok (.imul, 1) := by decide +kernel
theorem dX1_has_12 : decode cX1_has 12 = .ok (.aload_n 0, 1) := by decide +kernel
theorem dX1_has_13 : decode cX1_has 13 = .ok (.getfield 7, 3) := by decide +kernel
theorem dX1_has_16 : decode cX1_has 16 = .ok (.iload_n 1, 1) := by decide +kernel
theorem dX1_has_17 : decode cX1_has 17 = .ok (.iaload, 1) := by decide +kernel
theorem dX1_has_18 : decode cX1_has 18 = .ok (.iadd, 1) := by decide +kernel
theorem dX1_has_19 : decode cX1_has 19 = .ok (.if_icmp .ge 55, 3) := by decide +kernel
theorem dX1_has_22 : decode cX1_has 22 = .ok (.iload_n 2, 1) := by decide +kernel
theorem dX1_has_23 : decode cX1_has 23 = .ok (.aload_n 0, 1) := by decide +kernel
theorem dX1_has_24 : decode cX1_has 24 = .ok (.getfield 13, 3) := by decide +kernel
theorem dX1_has_27 : decode cX1_has 27 = .ok (.iload 4, 2) := by decide +kernel
theorem dX1_has_29 : decode cX1_has 29 = .ok (.iaload, 1) := by decide +kernel
theorem dX1_has_30 : decode cX1_has 30 = .ok (.if_icmp .lt 38, 3) := by decide +kernel
theorem dX1_has_33 : decode cX1_has 33 = .ok (.iload_n 2, 1) := by decide +kernel
theorem dX1_has_34 : decode cX1_has 34 = .ok (.aload_n 0, 1) := by decide +kernel
theorem dX1_has_35 : decode cX1_has 35 = .ok (.getfield 16, 3) := by decide +kernel
theorem dX1_has_38 : decode cX1_has 38 = .ok (.iload 4, 2) := by decide +kernel
theorem dX1_has_40 : decode cX1_has 40 = .ok (.iaload, 1) := by decide +kernel
theorem dX1_has_41 : decode cX1_has 41 = .ok (.if_icmp .ge 27, 3) := by decide +kernel
theorem dX1_has_44 : decode cX1_has 44 = .ok (.iload_n 3, 1) := by decide +kernel
theorem dX1_has_45 : decode cX1_has 45 = .ok (.aload_n 0, 1) := by decide +kernel
theorem dX1_has_46 : decode cX1_has 46 = .ok (.getfield 19, 3) := by decide +kernel
theorem dX1_has_49 : decode cX1_has 49 = .ok (.iload 4, 2) := by decide +kernel
theorem dX1_has_51 : decode cX1_has 51 = .ok (.iaload, 1) := by decide +kernel
theorem dX1_has_52 : decode cX1_has 52 = .ok (.if_icmp .lt 16, 3) := by decide +kernel
theorem dX1_has_55 : decode cX1_has 55 = .ok (.iload_n 3, 1) := by decide +kernel
theorem dX1_has_56 : decode cX1_has 56 = .ok (.aload_n 0, 1) := by decide +kernel
theorem dX1_has_57 : decode cX1_has 57 = .ok (.getfield 22, 3) := by decide +kernel
theorem dX1_has_60 : decode cX1_has 60 = .ok (.iload 4, 2) := by decide +kernel
theorem dX1_has_62 : decode cX1_has 62 = .ok (.iaload, 1) := by decide +kernel
theorem dX1_has_63 : decode cX1_has 63 = .ok (.if_icmp .ge 5, 3) := by decide +kernel
theorem dX1_has_66 : decode cX1_has 66 = .ok (.iconst 1, 1) := by decide +kernel
theorem dX1_has_67 : decode cX1_has 67 = .ok (.ireturn, 1) := by decide +kernel
theorem dX1_has_68 : decode cX1_has 68 = .ok (.iinc 4 1, 3) := by decide +kernel
theorem dX1_has_71 : decode cX1_has 71 = .ok (.goto (-65), 3) := by decide +kernel
theorem dX1_has_74 : decode cX1_has 74 = .ok (.iconst 0, 1) := by decide +kernel
theorem dX1_has_75 : decode cX1_has 75 = .ok (.ireturn, 1) := by decide +kernel
theorem dX1_area_0 : decode cX1_area 0 = .ok (.aload_n 0, 1) := by decide +kernel
theorem dX1_area_1 : decode cX1_area 1 = .ok (.iload_n 1, 1) := by decide +kernel
theorem dX1_area_2 : decode cX1_area 2 = .ok (.iload_n 2, 1) := by decide +kernel
theorem dX1_area_3 : decode cX1_area 3 = .ok (.iload_n 3, 1) := by decide +kernel
theorem dX1_area_4 : decode cX1_area 4 = .ok (.invokevirtual 37, 3) := by decide +kernel
theorem dX1_area_7 : decode cX1_area 7 = .ok (.ifCond .ne 6, 3) := by decide +kernel
theorem dX1_area_10 : decode cX1_area 10 = .ok (.bipush (-2), 2) := by decide +kernel
theorem dX1_area_12 : decode cX1_area 12 = .ok (.ireturn, 1) := by decide +kernel
theorem dX1_area_13 : decode cX1_area 13 = .ok (.iconst 0, 1) := by decide +kernel
theorem dX1_area_14 : decode cX1_area 14 = .ok (.istore 4, 2) := by decide +kernel
theorem dX1_area_16 : decode cX1_area 16 = .ok (.iconst 0, 1) := by decide +kernel
theorem dX1_area_17 : decode cX1_area 17 = .ok (.istore 5, 2) := by decide +kernel
theorem dX1_area_19 : decode cX1_area 19 = .ok (.iload 5, 2) := by decide +kernel
theorem dX1_area_21 : decode cX1_area 21 = .ok (.sipush 256, 3) := by decide +kernel
theorem dX1_area_24 : decode cX1_area 24 = .ok (.if_icmp .ge 22, 3) := by decide +kernel
theorem dX1_area_27 : decode cX1_area 27 = .ok (.aload_n 0, 1) := by decide +kernel
theorem dX1_area_28 : decode cX1_area 28 = .ok (.getfield 25, 3) := by decide +kernel
theorem dX1_area_31 : decode cX1_area 31 = .ok (.iload 5, 2) := by decide +kernel
theorem dX1_area_33 : decode cX1_area 33 = .ok (.baload, 1) := by decide +kernel
theorem dX1_area_34 : decode cX1_area 34 = .ok (.ifCond .eq 6, 3) := by decide +kernel
theorem dX1_area_37 : decode cX1_area 37 = .ok (.iinc 4 1, 3) := by decide +kernel
theorem dX1_area_40 : decode cX1_area 40 = .ok (.iinc 5 1, 3) := by decide +kernel
theorem dX1_area_43 : decode cX1_area 43 = .ok (.goto (-24), 3) := by decide +kernel
theorem dX1_area_46 : decode cX1_area 46 = .ok (.iload 4, 2) := by decide +kernel
theorem dX1_area_48 : decode cX1_area 48 = .ok (.ireturn, 1) := by decide +kernel
theorem dX1_combine_0 : decode cX1_combine 0 = .ok (.iload_n 1, 1) := by decide +kernel
theorem dX1_combine_1 : decode cX1_combine 1 = .ok (.ifCond .lt 24, 3) := by decide +kernel
theorem dX1_combine_4 : decode cX1_combine 4 = .ok (.iload_n 1, 1) := by decide +kernel
theorem dX1_combine_5 : decode cX1_combine 5 = .ok (.iconst 2, 1) := by decide +kernel
theorem dX1_combine_6 : decode cX1_combine 6 = .ok (.if_icmp .gt 19, 3) := by decide +kernel
theorem dX1_combine_9 : decode cX1_combine 9 = .ok (.aload_n 0, 1) := by decide +kernel
theorem dX1_combine_10 : decode cX1_combine 10 = .ok (.iload_n 2, 1) := by decide +kernel
theorem dX1_combine_11 : decode cX1_combine 11 = .ok (.invokevirtual 29, 3) := by decide +kernel
theorem dX1_combine_14 : decode cX1_combine 14 = .ok (.ifCond .eq 11, 3) := by decide +kernel
theorem dX1_combine_17 : decode cX1_combine 17 = .ok (.aload_n 0, 1) := by decide +kernel
theorem dX1_combine_18 : decode cX1_combine 18 = .ok (.iload_n 3, 1) := by decide +kernel
theorem dX1_combine_19 : decode cX1_combine 19 = .ok (.invokevirtual 29, 3) := by decide +kernel
theorem dX1_combine_22 : decode cX1_combine 22 = .ok (.ifCond .ne 5, 3) := by decide +kernel
theorem dX1_combine_25 : decode cX1_combine 25 = .ok (.iconst 0, 1) := by decide +kernel
theorem dX1_combine_26 : decode cX1_combine 26 = .ok (.ireturn, 1) := by decide +kernel
theorem dX1_combine_27 : decode cX1_combine 27 = .ok (.iconst 0, 1) := by decide +kernel
theorem dX1_combine_28 : decode cX1_combine 28 = .ok (.istore 4, 2) := by decide +kernel
theorem dX1_combine_30 : decode cX1_combine 30 = .ok (.iload 4, 2) := by decide +kernel
theorem dX1_combine_32 : decode cX1_combine 32 = .ok (.sipush 256, 3) := by decide +kernel
theorem dX1_combine_35 : decode cX1_combine 35 = .ok (.if_icmp .ge 110, 3) := by decide +kernel
theorem dX1_combine_38 : decode cX1_combine 38 = .ok (.aload_n 0, 1) := by decide +kernel
theorem dX1_combine_39 : decode cX1_combine 39 = .ok (.iload_n 2, 1) := by decide +kernel
theorem dX1_combine_40 : decode cX1_combine 40 = .ok (.iload 4, 2) := by decide +kernel
theorem dX1_combine_42 : decode cX1_combine 42 = .ok (.bipush 16, 2) := by decide +kernel
theorem dX1_combine_44 : decode cX1_combine 44 = .ok (.irem, 1) := by decide +kernel
theorem dX1_combine_45 : decode cX1_combine 45 = .ok (.iload 4, 2) := by decide +kernel
theorem dX1_combine_47 : decode cX1_combine 47 = .ok (.bipush 16, 2) := by decide +kernel
theorem dX1_combine_49 : decode cX1_combine 49 = .ok (.idiv, 1) := by decide +kernel
theorem dX1_combine_50 : decode cX1_combine 50 = .ok (.invokevirtual 33, 3) := by decide +kernel
theorem dX1_combine_53 : decode cX1_combine 53 = .ok (.istore 5, 2) := by decide +kernel
theorem dX1_combine_55 : decode cX1_combine 55 = .ok (.aload_n 0, 1) := by decide +kernel
theorem dX1_combine_56 : decode cX1_combine 56 = .ok (.iload_n 3, 1) := by decide +kernel
theorem dX1_combine_57 : decode cX1_combine 57 = .ok (.iload 4, 2) := by decide +kernel
theorem dX1_combine_59 : decode cX1_combine 59 = .ok (.bipush 16, 2) := by decide +kernel
theorem dX1_combine_61 : decode cX1_combine 61 = .ok (.irem, 1) := by decide +kernel
theorem dX1_combine_62 : decode cX1_combine 62 = .ok (.iload 4, 2) := by decide +kernel
theorem dX1_combine_64 : decode cX1_combine 64 = .ok (.bipush 16, 2) := by decide +kernel
theorem dX1_combine_66 : decode cX1_combine 66 = .ok (.idiv, 1) := by decide +kernel
theorem dX1_combine_67 : decode cX1_combine 67 = .ok (.invokevirtual 33, 3) := by decide +kernel
theorem dX1_combine_70 : decode cX1_combine 70 = .ok (.istore 6, 2) := by decide +kernel
theorem dX1_combine_72 : decode cX1_combine 72 = .ok (.aload_n 0, 1) := by decide +kernel
theorem dX1_combine_73 : decode cX1_combine 73 = .ok (.getfield 25, 3) := by decide +kernel
theorem dX1_combine_76 : decode cX1_combine 76 = .ok (.iload 4, 2) := by decide +kernel
theorem dX1_combine_78 : decode cX1_combine 78 = .ok (.iload_n 1, 1) := by decide +kernel
theorem dX1_combine_79 : decode cX1_combine 79 = .ok (.ifCond .ne 21, 3) := by decide +kernel
theorem dX1_combine_82 : decode cX1_combine 82 = .ok (.iload 5, 2) := by decide +kernel
theorem dX1_combine_84 : decode cX1_combine 84 = .ok (.ifCond .eq 12, 3) := by decide +kernel
theorem dX1_combine_87 : decode cX1_combine 87 = .ok (.iload 6, 2) := by decide +kernel
theorem dX1_combine_89 : decode cX1_combine 89 = .ok (.ifCond .eq 7, 3) := by decide +kernel
theorem dX1_combine_92 : decode cX1_combine 92 = .ok (.iconst 1, 1) := by decide +kernel
theorem dX1_combine_93 : decode cX1_combine 93 = .ok (.goto 45, 3) := by decide +kernel
theorem dX1_combine_96 : decode cX1_combine 96 = .ok (.iconst 0, 1) := by decide +kernel
theorem dX1_combine_97 : decode cX1_combine 97 = .ok (.goto 41, 3) := by decide +kernel
theorem dX1_combine_100 : decode cX1_combine 100 = .ok (.iload_n 1, 1) := by decide +kernel
theorem dX1_combine_101 : decode cX1_combine 101 = .ok (.iconst 1, 1) := by decide +kernel
theorem dX1_combine_102 : decode cX1_combine 102 = .ok (.if_icmp .ne 21, 3) := by decide +kernel
theorem dX1_combine_105 : decode cX1_combine 105 = .ok (.iload 5, 2) := by decide +kernel
theorem dX1_combine_107 : decode cX1_combine 107 = .ok (.ifCond .ne 8, 3) := by decide +kernel
theorem dX1_combine_110 : decode cX1_combine 110 = .ok (.iload 6, 2) := by decide +kernel
theorem dX1_combine_112 : decode cX1_combine 112 = .ok (.ifCond .eq 7, 3) := by decide +kernel
theorem dX1_combine_115 : decode cX1_combine 115 = .ok (.iconst 1, 1) := by decide +kernel
theorem dX1_combine_116 : decode cX1_combine 116 = .ok (.goto 22, 3) := by decide +kernel
theorem dX1_combine_119 : decode cX1_combine 119 = .ok (.iconst 0, 1) := by decide +kernel
theorem dX1_combine_120 : decode cX1_combine 120 = .ok (.goto 18, 3) := by decide +kernel
theorem dX1_combine_123 : decode cX1_combine 123 = .ok (.iload 5, 2) := by decide +kernel
theorem dX1_combine_125 : decode cX1_combine 125 = .ok (.ifCond .eq 12, 3) := by decide +kernel
theorem dX1_combine_128 : decode cX1_combine 128 = .ok (.iload 6, 2) := by decide +kernel
theorem dX1_combine_130 : decode cX1_combine 130 = .ok (.ifCond .ne 7, 3) := by decide +kernel
theorem dX1_combine_133 : decode cX1_combine 133 = .ok (.iconst 1, 1) := by decide +kernel
theorem dX1_combine_134 : decode cX1_combine 134 = .ok (.goto 4, 3) := by decide +kernel
theorem dX1_combine_137 : decode cX1_combine 137 = .ok (.iconst 0, 1) := by decide +kernel
theorem dX1_combine_138 : decode cX1_combine 138 = .ok (.bastore, 1) := by decide +kernel
theorem dX1_combine_139 : decode cX1_combine 139 = .ok (.iinc 4 1, 3) := by decide +kernel
theorem dX1_combine_142 : decode cX1_combine 142 = .ok (.goto (-112), 3) := by decide +kernel
theorem dX1_combine_145 : decode cX1_combine 145 = .ok (.iconst 1, 1) := by decide +kernel
theorem dX1_combine_146 : decode cX1_combine 146 = .ok (.ireturn, 1) := by decide +kernel
theorem dX1_outline_0 : decode cX1_outline 0 = .ok (.aload_n 0, 1) := by decide +kernel
theorem dX1_outline_1 : decode cX1_outline 1 = .ok (.iload_n 1, 1) := by decide +kernel
theorem dX1_outline_2 : decode cX1_outline 2 = .ok (.iload_n 2, 1) := by decide +kernel
theorem dX1_outline_3 : decode cX1_outline 3 = .ok (.iload_n 3, 1) := by decide +kernel
theorem dX1_outline_4 : decode cX1_outline 4 = .ok (.invokevirtual 37, 3) := by decide +kernel
theorem dX1_outline_7 : decode cX1_outline 7 = .ok (.ifCond .ne 6, 3) := by decide +kernel
theorem dX1_outline_10 : decode cX1_outline 10 = .ok (.bipush (-2), 2) := by decide +kernel
theorem dX1_outline_12 : decode cX1_outline 12 = .ok (.ireturn, 1) := by decide +kernel
theorem dX1_outline_13 : decode cX1_outline 13 = .ok (.iconst 0, 1) := by decide +kernel
theorem dX1_outline_14 : decode cX1_outline 14 = .ok (.istore 4, 2) := by decide +kernel
theorem dX1_outline_16 : decode cX1_outline 16 = .ok (.iconst 0, 1) := by decide +kernel
theorem dX1_outline_17 : decode cX1_outline 17 = .ok (.istore 5, 2) := by decide +kernel
theorem dX1_outline_19 : decode cX1_outline 19 = .ok (.iload 5, 2) := by decide +kernel
theorem dX1_outline_21 : decode cX1_outline 21 = .ok (.bipush 16, 2) := by decide +kernel
theorem dX1_outline_23 : decode cX1_outline 23 = .ok (.if_icmp .ge 100, 3) := by decide +kernel
theorem dX1_outline_26 : decode cX1_outline 26 = .ok (.iconst 0, 1) := by decide +kernel
theorem dX1_outline_27 : decode cX1_outline 27 = .ok (.istore 6, 2) := by decide +kernel
theorem dX1_outline_29 : decode cX1_outline 29 = .ok (.iload 6, 2) := by decide +kernel
theorem dX1_outline_31 : decode cX1_outline 31 = .ok (.bipush 16, 2) := by decide +kernel
theorem dX1_outline_33 : decode cX1_outline 33 = .ok (.if_icmp .ge 84, 3) := by decide +kernel
theorem dX1_outline_36 : decode cX1_outline 36 = .ok (.aload_n 0, 1) := by decide +kernel
theorem dX1_outline_37 : decode cX1_outline 37 = .ok (.iload 6, 2) := by decide +kernel
theorem dX1_outline_39 : decode cX1_outline 39 = .ok (.iload 5, 2) := by decide +kernel
theorem dX1_outline_41 : decode cX1_outline 41 = .ok (.invokevirtual 40, 3) := by decide +kernel
theorem dX1_outline_44 : decode cX1_outline 44 = .ok (.ifCond .eq 67, 3) := by decide +kernel
theorem dX1_outline_47 : decode cX1_outline 47 = .ok (.aload_n 0, 1) := by decide +kernel
theorem dX1_outline_48 : decode cX1_outline 48 = .ok (.iload 6, 2) := by decide +kernel
theorem dX1_outline_50 : decode cX1_outline 50 = .ok (.iconst 1, 1) := by decide +kernel
theorem dX1_outline_51 : decode cX1_outline 51 = .ok (.isub, 1) := by decide +kernel
theorem dX1_outline_52 : decode cX1_outline 52 = .ok (.iload 5, 2) := by decide +kernel
theorem dX1_outline_54 : decode cX1_outline 54 = .ok (.invokevirtual 40, 3) := by decide +kernel
theorem dX1_outline_57 : decode cX1_outline 57 = .ok (.ifCond .ne 6, 3) := by decide +kernel
theorem dX1_outline_60 : decode cX1_outline 60 = .ok (.iinc 4 1, 3) := by decide +kernel
theorem dX1_outline_63 : decode cX1_outline 63 = .ok (.aload_n 0, 1) := by decide +kernel
theorem dX1_outline_64 : decode cX1_outline 64 = .ok (.iload 6, 2) := by decide +kernel
theorem dX1_outline_66 : decode cX1_outline 66 = .ok (.iconst 1, 1) := by decide +kernel
theorem dX1_outline_67 : decode cX1_outline 67 = .ok (.iadd, 1) := by decide +kernel
theorem dX1_outline_68 : decode cX1_outline 68 = .ok (.iload 5, 2) := by decide +kernel
theorem dX1_outline_70 : decode cX1_outline 70 = .ok (.invokevirtual 40, 3) := by decide +kernel
theorem dX1_outline_73 : decode cX1_outline 73 = .ok (.ifCond .ne 6, 3) := by decide +kernel
theorem dX1_outline_76 : decode cX1_outline 76 = .ok (.iinc 4 1, 3) := by decide +kernel
theorem dX1_outline_79 : decode cX1_outline 79 = .ok (.aload_n 0, 1) := by decide +kernel
theorem dX1_outline_80 : decode cX1_outline 80 = .ok (.iload 6, 2) := by decide +kernel
theorem dX1_outline_82 : decode cX1_outline 82 = .ok (.iload 5, 2) := by decide +kernel
theorem dX1_outline_84 : decode cX1_outline 84 = .ok (.iconst 1, 1) := by decide +kernel
theorem dX1_outline_85 : decode cX1_outline 85 = .ok (.isub, 1) := by decide +kernel
theorem dX1_outline_86 : decode cX1_outline 86 = .ok (.invokevirtual 40, 3) := by decide +kernel
theorem dX1_outline_89 : decode cX1_outline 89 = .ok (.ifCond .ne 6, 3) := by decide +kernel
theorem dX1_outline_92 : decode cX1_outline 92 = .ok (.iinc 4 1, 3) := by decide +kernel
theorem dX1_outline_95 : decode cX1_outline 95 = .ok (.aload_n 0, 1) := by decide +kernel
theorem dX1_outline_96 : decode cX1_outline 96 = .ok (.iload 6, 2) := by decide +kernel
theorem dX1_outline_98 : decode cX1_outline 98 = .ok (.iload 5, 2) := by decide +kernel
theorem dX1_outline_100 : decode cX1_outline 100 = .ok (.iconst 1, 1) := by decide +kernel
theorem dX1_outline_101 : decode cX1_outline 101 = .ok (.iadd, 1) := by decide +kernel
theorem dX1_outline_102 : decode cX1_outline 102 = .ok (.invokevirtual 40, 3) := by decide +kernel
theorem dX1_outline_105 : decode cX1_outline 105 = .ok (.ifCond .ne 6, 3) := by decide +kernel
theorem dX1_outline_108 : decode cX1_outline 108 = .ok (.iinc 4 1, 3) := by decide +kernel
theorem dX1_outline_111 : decode cX1_outline 111 = .ok (.iinc 6 1, 3) := by decide +kernel
theorem dX1_outline_114 : decode cX1_outline 114 = .ok (.goto (-85), 3) := by decide +kernel
theorem dX1_outline_117 : decode cX1_outline 117 = .ok (.iinc 5 1, 3) := by decide +kernel
theorem dX1_outline_120 : decode cX1_outline 120 = .ok (.goto (-101), 3) := by decide +kernel
theorem dX1_outline_123 : decode cX1_outline 123 = .ok (.iload 4, 2) := by decide +kernel
theorem dX1_outline_125 : decode cX1_outline 125 = .ok (.ireturn, 1) := by decide +kernel
theorem dX1_in_0 : decode cX1_in 0 = .ok (.iload_n 1, 1) := by decide +kernel
theorem dX1_in_1 : decode cX1_in 1 = .ok (.ifCond .lt 37, 3) := by decide +kernel
theorem dX1_in_4 : decode cX1_in 4 = .ok (.iload_n 1, 1) := by decide +kernel
theorem dX1_in_5 : decode cX1_in 5 = .ok (.bipush 15, 2) := by decide +kernel
theorem dX1_in_7 : decode cX1_in 7 = .ok (.if_icmp .gt 31, 3) := by decide +kernel
theorem dX1_in_10 : decode cX1_in 10 = .ok (.iload_n 2, 1) := by decide +kernel
theorem dX1_in_11 : decode cX1_in 11 = .ok (.ifCond .lt 27, 3) := by decide +kernel
theorem dX1_in_14 : decode cX1_in 14 = .ok (.iload_n 2, 1) := by decide +kernel
theorem dX1_in_15 : decode cX1_in 15 = .ok (.bipush 15, 2) := by decide +kernel
theorem dX1_in_17 : decode cX1_in 17 = .ok (.if_icmp .gt 21, 3) := by decide +kernel
theorem dX1_in_20 : decode cX1_in 20 = .ok (.aload_n 0, 1) := by decide +kernel
end
section
set_option maxRecDepth 100000
theorem dX1_in_21 : decode cX1_in 21 = .ok (.getfield 25, 3) := by decide +kernel
theorem dX1_in_24 : decode cX1_in 24 = .ok (.bipush 16, 2) := by decide +kernel
theorem dX1_in_26 : decode cX1_in 26 = .ok (.iload_n 2, 1) := by decide +kernel
theorem dX1_in_27 : decode cX1_in 27 = .ok (.imul, 1) := by decide +kernel
theorem dX1_in_28 : decode cX1_in 28 = .ok (.iload_n 1, 1) := by decide +kernel
theorem dX1_in_29 : decode cX1_in 29 = .ok (.iadd, 1) := by decide +kernel
theorem dX1_in_30 : decode cX1_in 30 = .ok (.baload, 1) := by decide +kernel
theorem dX1_in_31 : decode cX1_in 31 = .ok (.ifCond .eq 7, 3) := by decide +kernel
theorem dX1_in_34 : decode cX1_in 34 = .ok (.iconst 1, 1) := by decide +kernel
theorem dX1_in_35 : decode cX1_in 35 = .ok (.goto 4, 3) := by decide +kernel
theorem dX1_in_38 : decode cX1_in 38 = .ok (.iconst 0, 1) := by decide +kernel
theorem dX1_in_39 : decode cX1_in 39 = .ok (.ireturn, 1) := by decide +kernel
theorem dX1_corners_0 : decode cX1_corners 0 = .ok (.aload_n 0, 1) := by decide +kernel
theorem dX1_corners_1 : decode cX1_corners 1 = .ok (.iload_n 1, 1) := by decide +kernel
theorem dX1_corners_2 : decode cX1_corners 2 = .ok (.iload_n 2, 1) := by decide +kernel
theorem dX1_corners_3 : decode cX1_corners 3 = .ok (.iload_n 3, 1) := by decide +kernel
theorem dX1_corners_4 : decode cX1_corners 4 = .ok (.invokevirtual 37, 3) := by decide +kernel
theorem dX1_corners_7 : decode cX1_corners 7 = .ok (.ifCond .ne 6, 3) := by decide +kernel
theorem dX1_corners_10 : decode cX1_corners 10 = .ok (.bipush (-2), 2) := by decide +kernel
theorem dX1_corners_12 : decode cX1_corners 12 = .ok (.ireturn, 1) := by decide +kernel
theorem dX1_corners_13 : decode cX1_corners 13 = .ok (.iconst 0, 1) := by decide +kernel
theorem dX1_corners_14 : decode cX1_corners 14 = .ok (.istore 4, 2) := by decide +kernel
theorem dX1_corners_16 : decode cX1_corners 16 = .ok (.iconst 0, 1) := by decide +kernel
theorem dX1_corners_17 : decode cX1_corners 17 = .ok (.istore 5, 2) := by decide +kernel
theorem dX1_corners_19 : decode cX1_corners 19 = .ok (.iload 5, 2) := by decide +kernel
theorem dX1_corners_21 : decode cX1_corners 21 = .ok (.bipush 16, 2) := by decide +kernel
theorem dX1_corners_23 : decode cX1_corners 23 = .ok (.if_icmp .gt 162, 3) := by decide +kernel
theorem dX1_corners_26 : decode cX1_corners 26 = .ok (.iconst 0, 1) := by decide +kernel
theorem dX1_corners_27 : decode cX1_corners 27 = .ok (.istore 6, 2) := by decide +kernel
theorem dX1_corners_29 : decode cX1_corners 29 = .ok (.iload 6, 2) := by decide +kernel
theorem dX1_corners_31 : decode cX1_corners 31 = .ok (.bipush 16, 2) := by decide +kernel
theorem dX1_corners_33 : decode cX1_corners 33 = .ok (.if_icmp .gt 146, 3) := by decide +kernel
theorem dX1_corners_36 : decode cX1_corners 36 = .ok (.aload_n 0, 1) := by decide +kernel
theorem dX1_corners_37 : decode cX1_corners 37 = .ok (.iload 6, 2) := by decide +kernel
theorem dX1_corners_39 : decode cX1_corners 39 = .ok (.iconst 1, 1) := by decide +kernel
theorem dX1_corners_40 : decode cX1_corners 40 = .ok (.isub, 1) := by decide +kernel
theorem dX1_corners_41 : decode cX1_corners 41 = .ok (.iload 5, 2) := by decide +kernel
theorem dX1_corners_43 : decode cX1_corners 43 = .ok (.invokevirtual 40, 3) := by decide +kernel
theorem dX1_corners_46 : decode cX1_corners 46 = .ok (.aload_n 0, 1) := by decide +kernel
theorem dX1_corners_47 : decode cX1_corners 47 = .ok (.iload 6, 2) := by decide +kernel
theorem dX1_corners_49 : decode cX1_corners 49 = .ok (.iload 5, 2) := by decide +kernel
theorem dX1_corners_51 : decode cX1_corners 51 = .ok (.invokevirtual 40, 3) := by decide +kernel
theorem dX1_corners_54 : decode cX1_corners 54 = .ok (.if_icmp .eq 7, 3) := by decide +kernel
theorem dX1_corners_57 : decode cX1_corners 57 = .ok (.iconst 1, 1) := by decide +kernel
theorem dX1_corners_58 : decode cX1_corners 58 = .ok (.goto 4, 3) := by decide +kernel
theorem dX1_corners_61 : decode cX1_corners 61 = .ok (.iconst 0, 1) := by decide +kernel
theorem dX1_corners_62 : decode cX1_corners 62 = .ok (.istore 7, 2) := by decide +kernel
theorem dX1_corners_64 : decode cX1_corners 64 = .ok (.aload_n 0, 1) := by decide +kernel
theorem dX1_corners_65 : decode cX1_corners 65 = .ok (.iload 6, 2) := by decide +kernel
theorem dX1_corners_67 : decode cX1_corners 67 = .ok (.iconst 1, 1) := by decide +kernel
theorem dX1_corners_68 : decode cX1_corners 68 = .ok (.isub, 1) := by decide +kernel
theorem dX1_corners_69 : decode cX1_corners 69 = .ok (.iload 5, 2) := by decide +kernel
theorem dX1_corners_71 : decode cX1_corners 71 = .ok (.iconst 1, 1) := by decide +kernel
theorem dX1_corners_72 : decode cX1_corners 72 = .ok (.isub, 1) := by decide +kernel
theorem dX1_corners_73 : decode cX1_corners 73 = .ok (.invokevirtual 40, 3) := by decide +kernel
theorem dX1_corners_76 : decode cX1_corners 76 = .ok (.aload_n 0, 1) := by decide +kernel
theorem dX1_corners_77 : decode cX1_corners 77 = .ok (.iload 6, 2) := by decide +kernel
theorem dX1_corners_79 : decode cX1_corners 79 = .ok (.iload 5, 2) := by decide +kernel
theorem dX1_corners_81 : decode cX1_corners 81 = .ok (.iconst 1, 1) := by decide +kernel
theorem dX1_corners_82 : decode cX1_corners 82 = .ok (.isub, 1) := by decide +kernel
theorem dX1_corners_83 : decode cX1_corners 83 = .ok (.invokevirtual 40, 3) := by decide +kernel
theorem dX1_corners_86 : decode cX1_corners 86 = .ok (.if_icmp .eq 7, 3) := by decide +kernel
theorem dX1_corners_89 : decode cX1_corners 89 = .ok (.iconst 1, 1) := by decide +kernel
theorem dX1_corners_90 : decode cX1_corners 90 = .ok (.goto 4, 3) := by decide +kernel
theorem dX1_corners_93 : decode cX1_corners 93 = .ok (.iconst 0, 1) := by decide +kernel
theorem dX1_corners_94 : decode cX1_corners 94 = .ok (.istore 8, 2) := by decide +kernel
theorem dX1_corners_96 : decode cX1_corners 96 = .ok (.aload_n 0, 1) := by decide +kernel
theorem dX1_corners_97 : decode cX1_corners 97 = .ok (.iload 6, 2) := by decide +kernel
theorem dX1_corners_99 : decode cX1_corners 99 = .ok (.iconst 1, 1) := by decide +kernel
theorem dX1_corners_100 : decode cX1_corners 100 = .ok (.isub, 1) := by decide +kernel
theorem dX1_corners_101 : decode cX1_corners 101 = .ok (.iload 5, 2) := by decide +kernel
theorem dX1_corners_103 : decode cX1_corners 103 = .ok (.invokevirtual 40, 3) := by decide +kernel
theorem dX1_corners_106 : decode cX1_corners 106 = .ok (.aload_n 0, 1) := by decide +kernel
theorem dX1_corners_107 : decode cX1_corners 107 = .ok (.iload 6, 2) := by decide +kernel
theorem dX1_corners_109 : decode cX1_corners 109 = .ok (.iconst 1, 1) := by decide +kernel
theorem dX1_corners_110 : decode cX1_corners 110 = .ok (.isub, 1) := by decide +kernel
theorem dX1_corners_111 : decode cX1_corners 111 = .ok (.iload 5, 2) := by decide +kernel
theorem dX1_corners_113 : decode cX1_corners 113 = .ok (.iconst 1, 1) := by decide +kernel
theorem dX1_corners_114 : decode cX1_corners 114 = .ok (.isub, 1) := by decide +kernel
theorem dX1_corners_115 : decode cX1_corners 115 = .ok (.invokevirtual 40, 3) := by decide +kernel
theorem dX1_corners_118 : decode cX1_corners 118 = .ok (.if_icmp .eq 7, 3) := by decide +kernel
theorem dX1_corners_121 : decode cX1_corners 121 = .ok (.iconst 1, 1) := by decide +kernel
theorem dX1_corners_122 : decode cX1_corners 122 = .ok (.goto 4, 3) := by decide +kernel
theorem dX1_corners_125 : decode cX1_corners 125 = .ok (.iconst 0, 1) := by decide +kernel
theorem dX1_corners_126 : decode cX1_corners 126 = .ok (.istore 9, 2) := by decide +kernel
theorem dX1_corners_128 : decode cX1_corners 128 = .ok (.aload_n 0, 1) := by decide +kernel
theorem dX1_corners_129 : decode cX1_corners 129 = .ok (.iload 6, 2) := by decide +kernel
theorem dX1_corners_131 : decode cX1_corners 131 = .ok (.iload 5, 2) := by decide +kernel
theorem dX1_corners_133 : decode cX1_corners 133 = .ok (.invokevirtual 40, 3) := by decide +kernel
theorem dX1_corners_136 : decode cX1_corners 136 = .ok (.aload_n 0, 1) := by decide +kernel
theorem dX1_corners_137 : decode cX1_corners 137 = .ok (.iload 6, 2) := by decide +kernel
theorem dX1_corners_139 : decode cX1_corners 139 = .ok (.iload 5, 2) := by decide +kernel
theorem dX1_corners_141 : decode cX1_corners 141 = .ok (.iconst 1, 1) := by decide +kernel
theorem dX1_corners_142 : decode cX1_corners 142 = .ok (.isub, 1) := by decide +kernel
theorem dX1_corners_143 : decode cX1_corners 143 = .ok (.invokevirtual 40, 3) := by decide +kernel
theorem dX1_corners_146 : decode cX1_corners 146 = .ok (.if_icmp .eq 7, 3) := by decide +kernel
theorem dX1_corners_149 : decode cX1_corners 149 = .ok (.iconst 1, 1) := by decide +kernel
theorem dX1_corners_150 : decode cX1_corners 150 = .ok (.goto 4, 3) := by decide +kernel
theorem dX1_corners_153 : decode cX1_corners 153 = .ok (.iconst 0, 1) := by decide +kernel
theorem dX1_corners_154 : decode cX1_corners 154 = .ok (.istore 10, 2) := by decide +kernel
theorem dX1_corners_156 : decode cX1_corners 156 = .ok (.iload 7, 2) := by decide +kernel
theorem dX1_corners_158 : decode cX1_corners 158 = .ok (.iload 8, 2) := by decide +kernel
theorem dX1_corners_160 : decode cX1_corners 160 = .ok (.if_icmp .eq 13, 3) := by decide +kernel
theorem dX1_corners_163 : decode cX1_corners 163 = .ok (.iload 9, 2) := by decide +kernel
theorem dX1_corners_165 : decode cX1_corners 165 = .ok (.iload 10, 2) := by decide +kernel
theorem dX1_corners_167 : decode cX1_corners 167 = .ok (.if_icmp .eq 6, 3) := by decide +kernel
theorem dX1_corners_170 : decode cX1_corners 170 = .ok (.iinc 4 1, 3) := by decide +kernel
theorem dX1_corners_173 : decode cX1_corners 173 = .ok (.iinc 6 1, 3) := by decide +kernel
theorem dX1_corners_176 : decode cX1_corners 176 = .ok (.goto (-147), 3) := by decide +kernel
theorem dX1_corners_179 : decode cX1_corners 179 = .ok (.iinc 5 1, 3) := by decide +kernel
theorem dX1_corners_182 : decode cX1_corners 182 = .ok (.goto (-163), 3) := by decide +kernel
theorem dX1_corners_185 : decode cX1_corners 185 = .ok (.iload 4, 2) := by decide +kernel
theorem dX1_corners_187 : decode cX1_corners 187 = .ok (.ireturn, 1) := by decide +kernel
theorem dX1_thin_0 : decode cX1_thin 0 = .ok (.aload_n 0, 1) := by decide +kernel
theorem dX1_thin_1 : decode cX1_thin 1 = .ok (.iconst 0, 1) := by decide +kernel
theorem dX1_thin_2 : decode cX1_thin 2 = .ok (.iload_n 1, 1) := by decide +kernel
theorem dX1_thin_3 : decode cX1_thin 3 = .ok (.iload_n 1, 1) := by decide +kernel
theorem dX1_thin_4 : decode cX1_thin 4 = .ok (.invokevirtual 37, 3) := by decide +kernel
theorem dX1_thin_7 : decode cX1_thin 7 = .ok (.ifCond .eq 14, 3) := by decide +kernel
theorem dX1_thin_10 : decode cX1_thin 10 = .ok (.iload_n 2, 1) := by decide +kernel
theorem dX1_thin_11 : decode cX1_thin 11 = .ok (.iconst 1, 1) := by decide +kernel
theorem dX1_thin_12 : decode cX1_thin 12 = .ok (.if_icmp .lt 9, 3) := by decide +kernel
theorem dX1_thin_15 : decode cX1_thin 15 = .ok (.iload_n 2, 1) := by decide +kernel
theorem dX1_thin_16 : decode cX1_thin 16 = .ok (.bipush 8, 2) := by decide +kernel
theorem dX1_thin_18 : decode cX1_thin 18 = .ok (.if_icmp .le 6, 3) := by decide +kernel
theorem dX1_thin_21 : decode cX1_thin 21 = .ok (.bipush (-2), 2) := by decide +kernel
theorem dX1_thin_23 : decode cX1_thin 23 = .ok (.ireturn, 1) := by decide +kernel
theorem dX1_thin_24 : decode cX1_thin 24 = .ok (.iconst 0, 1) := by decide +kernel
theorem dX1_thin_25 : decode cX1_thin 25 = .ok (.istore_n 3, 1) := by decide +kernel
theorem dX1_thin_26 : decode cX1_thin 26 = .ok (.iconst 0, 1) := by decide +kernel
theorem dX1_thin_27 : decode cX1_thin 27 = .ok (.istore 4, 2) := by decide +kernel
theorem dX1_thin_29 : decode cX1_thin 29 = .ok (.iload 4, 2) := by decide +kernel
theorem dX1_thin_31 : decode cX1_thin 31 = .ok (.bipush 16, 2) := by decide +kernel
theorem dX1_thin_33 : decode cX1_thin 33 = .ok (.if_icmp .ge 105, 3) := by decide +kernel
theorem dX1_thin_36 : decode cX1_thin 36 = .ok (.iconst 0, 1) := by decide +kernel
theorem dX1_thin_37 : decode cX1_thin 37 = .ok (.istore 5, 2) := by decide +kernel
theorem dX1_thin_39 : decode cX1_thin 39 = .ok (.iload 5, 2) := by decide +kernel
theorem dX1_thin_41 : decode cX1_thin 41 = .ok (.bipush 16, 2) := by decide +kernel
theorem dX1_thin_43 : decode cX1_thin 43 = .ok (.if_icmp .ge 89, 3) := by decide +kernel
theorem dX1_thin_46 : decode cX1_thin 46 = .ok (.aload_n 0, 1) := by decide +kernel
theorem dX1_thin_47 : decode cX1_thin 47 = .ok (.iload 5, 2) := by decide +kernel
theorem dX1_thin_49 : decode cX1_thin 49 = .ok (.iload 4, 2) := by decide +kernel
theorem dX1_thin_51 : decode cX1_thin 51 = .ok (.invokevirtual 40, 3) := by decide +kernel
theorem dX1_thin_54 : decode cX1_thin 54 = .ok (.ifCond .eq 72, 3) := by decide +kernel
theorem dX1_thin_57 : decode cX1_thin 57 = .ok (.aload_n 0, 1) := by decide +kernel
theorem dX1_thin_58 : decode cX1_thin 58 = .ok (.iload 5, 2) := by decide +kernel
theorem dX1_thin_60 : decode cX1_thin 60 = .ok (.iload 4, 2) := by decide +kernel
theorem dX1_thin_62 : decode cX1_thin 62 = .ok (.iconst (-1), 1) := by decide +kernel
theorem dX1_thin_63 : decode cX1_thin 63 = .ok (.iconst 0, 1) := by decide +kernel
theorem dX1_thin_64 : decode cX1_thin 64 = .ok (.iconst 1, 1) := by decide +kernel
theorem dX1_thin_65 : decode cX1_thin 65 = .ok (.invokevirtual 44, 3) := by decide +kernel
theorem dX1_thin_68 : decode cX1_thin 68 = .ok (.aload_n 0, 1) := by decide +kernel
theorem dX1_thin_69 : decode cX1_thin 69 = .ok (.iload 5, 2) := by decide +kernel
theorem dX1_thin_71 : decode cX1_thin 71 = .ok (.iload 4, 2) := by decide +kernel
theorem dX1_thin_73 : decode cX1_thin 73 = .ok (.iconst 1, 1) := by decide +kernel
theorem dX1_thin_74 : decode cX1_thin 74 = .ok (.iconst 0, 1) := by decide +kernel
theorem dX1_thin_75 : decode cX1_thin 75 = .ok (.iconst 1, 1) := by decide +kernel
theorem dX1_thin_76 : decode cX1_thin 76 = .ok (.invokevirtual 44, 3) := by decide +kernel
theorem dX1_thin_79 : decode cX1_thin 79 = .ok (.iadd, 1) := by decide +kernel
theorem dX1_thin_80 : decode cX1_thin 80 = .ok (.iconst 1, 1) := by decide +kernel
theorem dX1_thin_81 : decode cX1_thin 81 = .ok (.isub, 1) := by decide +kernel
theorem dX1_thin_82 : decode cX1_thin 82 = .ok (.istore 6, 2) := by decide +kernel
theorem dX1_thin_84 : decode cX1_thin 84 = .ok (.aload_n 0, 1) := by decide +kernel
theorem dX1_thin_85 : decode cX1_thin 85 = .ok (.iload 5, 2) := by decide +kernel
theorem dX1_thin_87 : decode cX1_thin 87 = .ok (.iload 4, 2) := by decide +kernel
theorem dX1_thin_89 : decode cX1_thin 89 = .ok (.iconst 0, 1) := by decide +kernel
theorem dX1_thin_90 : decode cX1_thin 90 = .ok (.iconst (-1), 1) := by decide +kernel
theorem dX1_thin_91 : decode cX1_thin 91 = .ok (.iconst 1, 1) := by decide +kernel
theorem dX1_thin_92 : decode cX1_thin 92 = .ok (.invokevirtual 44, 3) := by decide +kernel
theorem dX1_thin_95 : decode cX1_thin 95 = .ok (.aload_n 0, 1) := by decide +kernel
theorem dX1_thin_96 : decode cX1_thin 96 = .ok (.iload 5, 2) := by decide +kernel
theorem dX1_thin_98 : decode cX1_thin 98 = .ok (.iload 4, 2) := by decide +kernel
theorem dX1_thin_100 : decode cX1_thin 100 = .ok (.iconst 0, 1) := by decide +kernel
theorem dX1_thin_101 : decode cX1_thin 101 = .ok (.iconst 1, 1) := by decide +kernel
theorem dX1_thin_102 : decode cX1_thin 102 = .ok (.iconst 1, 1) := by decide +kernel
theorem dX1_thin_103 : decode cX1_thin 103 = .ok (.invokevirtual 44, 3) := by decide +kernel
theorem dX1_thin_106 : decode cX1_thin 106 = .ok (.iadd, 1) := by decide +kernel
theorem dX1_thin_107 : decode cX1_thin 107 = .ok (.iconst 1, 1) := by decide +kernel
theorem dX1_thin_108 : decode cX1_thin 108 = .ok (.isub, 1) := by decide +kernel
theorem dX1_thin_109 : decode cX1_thin 109 = .ok (.istore 7, 2) := by decide +kernel
theorem dX1_thin_111 : decode cX1_thin 111 = .ok (.iload 6, 2) := by decide +kernel
theorem dX1_thin_113 : decode cX1_thin 113 = .ok (.iload_n 2, 1) := by decide +kernel
theorem dX1_thin_114 : decode cX1_thin 114 = .ok (.if_icmp .lt 9, 3) := by decide +kernel
theorem dX1_thin_117 : decode cX1_thin 117 = .ok (.iload 7, 2) := by decide +kernel
theorem dX1_thin_119 : decode cX1_thin 119 = .ok (.iload_n 2, 1) := by decide +kernel
theorem dX1_thin_120 : decode cX1_thin 120 = .ok (.if_icmp .ge 6, 3) := by decide +kernel
theorem dX1_thin_123 : decode cX1_thin 123 = .ok (.iinc 3 1, 3) := by decide +kernel
theorem dX1_thin_126 : decode cX1_thin 126 = .ok (.iinc 5 1, 3) := by decide +kernel
theorem dX1_thin_129 : decode cX1_thin 129 = .ok (.goto (-90), 3) := by decide +kernel
theorem dX1_thin_132 : decode cX1_thin 132 = .ok (.iinc 4 1, 3) := by decide +kernel
theorem dX1_thin_135 : decode cX1_thin 135 = .ok (.goto (-106), 3) := by decide +kernel
theorem dX1_thin_138 : decode cX1_thin 138 = .ok (.iload_n 3, 1) := by decide +kernel
theorem dX1_thin_139 : decode cX1_thin 139 = .ok (.ireturn, 1) := by decide +kernel
theorem dX1_run_0 : decode cX1_run 0 = .ok (.iconst 0, 1) := by decide +kernel
theorem dX1_run_1 : decode cX1_run 1 = .ok (.istore 6, 2) := by decide +kernel
theorem dX1_run_3 : decode cX1_run 3 = .ok (.iload_n 1, 1) := by decide +kernel
theorem dX1_run_4 : decode cX1_run 4 = .ok (.istore 7, 2) := by decide +kernel
theorem dX1_run_6 : decode cX1_run 6 = .ok (.iload_n 2, 1) := by decide +kernel
theorem dX1_run_7 : decode cX1_run 7 = .ok (.istore 8, 2) := by decide +kernel
theorem dX1_run_9 : decode cX1_run 9 = .ok (.iconst 0, 1) := by decide +kernel
theorem dX1_run_10 : decode cX1_run 10 = .ok (.istore 9, 2) := by decide +kernel
theorem dX1_run_12 : decode cX1_run 12 = .ok (.iload 9, 2) := by decide +kernel
theorem dX1_run_14 : decode cX1_run 14 = .ok (.bipush 16, 2) := by decide +kernel
theorem dX1_run_16 : decode cX1_run 16 = .ok (.if_icmp .ge 65, 3) := by decide +kernel
theorem dX1_run_19 : decode cX1_run 19 = .ok (.iload 7, 2) := by decide +kernel
theorem dX1_run_21 : decode cX1_run 21 = .ok (.ifCond .lt 35, 3) := by decide +kernel
theorem dX1_run_24 : decode cX1_run 24 = .ok (.iload 7, 2) := by decide +kernel
theorem dX1_run_26 : decode cX1_run 26 = .ok (.bipush 15, 2) := by decide +kernel
theorem dX1_run_28 : decode cX1_run 28 = .ok (.if_icmp .gt 28, 3) := by decide +kernel
theorem dX1_run_31 : decode cX1_run 31 = .ok (.iload 8, 2) := by decide +kernel
theorem dX1_run_33 : decode cX1_run 33 = .ok (.ifCond .lt 23, 3) := by decide +kernel
theorem dX1_run_36 : decode cX1_run 36 = .ok (.iload 8, 2) := by decide +kernel
theorem dX1_run_38 : decode cX1_run 38 = .ok (.bipush 15, 2) := by decide +kernel
theorem dX1_run_40 : decode cX1_run 40 = .ok (.if_icmp .gt 16, 3) := by decide +kernel
theorem dX1_run_43 : decode cX1_run 43 = .ok (.aload_n 0, 1) := by decide +kernel
theorem dX1_run_44 : decode cX1_run 44 = .ok (.iload 7, 2) := by decide +kernel
theorem dX1_run_46 : decode cX1_run 46 = .ok (.iload 8, 2) := by decide +kernel
theorem dX1_run_48 : decode cX1_run 48 = .ok (.invokevirtual 40, 3) := by decide +kernel
theorem dX1_run_51 : decode cX1_run 51 = .ok (.iload 5, 2) := by decide +kernel
theorem dX1_run_53 : decode cX1_run 53 = .ok (.if_icmp .eq 6, 3) := by decide +kernel
theorem dX1_run_56 : decode cX1_run 56 = .ok (.iload 6, 2) := by decide +kernel
theorem dX1_run_58 : decode cX1_run 58 = .ok (.ireturn, 1) := by decide +kernel
theorem dX1_run_59 : decode cX1_run 59 = .ok (.iinc 6 1, 3) := by decide +kernel
theorem dX1_run_62 : decode cX1_run 62 = .ok (.iload 7, 2) := by decide +kernel
theorem dX1_run_64 : decode cX1_run 64 = .ok (.iload_n 3, 1) := by decide +kernel
theorem dX1_run_65 : decode cX1_run 65 = .ok (.iadd, 1) := by decide +kernel
theorem dX1_run_66 : decode cX1_run 66 = .ok (.istore 7, 2) := by decide +kernel
theorem dX1_run_68 : decode cX1_run 68 = .ok (.iload 8, 2) := by decide +kernel
theorem dX1_run_70 : decode cX1_run 70 = .ok (.iload 4, 2) := by decide +kernel
theorem dX1_run_72 : decode cX1_run 72 = .ok (.iadd, 1) := by decide +kernel
theorem dX1_run_73 : decode cX1_run 73 = .ok (.istore 8, 2) := by decide +kernel
theorem dX1_run_75 : decode cX1_run 75 = .ok (.iinc 9 1, 3) := by decide +kernel
theorem dX1_run_78 : decode cX1_run 78 = .ok (.goto (-66), 3) := by decide +kernel
theorem dX1_run_81 : decode cX1_run 81 = .ok (.iload 6, 2) := by decide +kernel
theorem dX1_run_83 : decode cX1_run 83 = .ok (.ireturn, 1) := by decide +kernel
theorem dX1_gaps_0 : decode cX1_gaps 0 = .ok (.aload_n 0, 1) := by decide +kernel
theorem dX1_gaps_1 : decode cX1_gaps 1 = .ok (.iconst 0, 1) := by decide +kernel
theorem dX1_gaps_2 : decode cX1_gaps 2 = .ok (.iload_n 1, 1) := by decide +kernel
theorem dX1_gaps_3 : decode cX1_gaps 3 = .ok (.iload_n 1, 1) := by decide +kernel
theorem dX1_gaps_4 : decode cX1_gaps 4 = .ok (.invokevirtual 37, 3) := by decide +kernel
theorem dX1_gaps_7 : decode cX1_gaps 7 = .ok (.ifCond .eq 14, 3) := by decide +kernel
theorem dX1_gaps_10 : decode cX1_gaps 10 = .ok (.iload_n 2, 1) := by decide +kernel
theorem dX1_gaps_11 : decode cX1_gaps 11 = .ok (.iconst 1, 1) := by decide +kernel
theorem dX1_gaps_12 : decode cX1_gaps 12 = .ok (.if_icmp .lt 9, 3) := by decide +kernel
theorem dX1_gaps_15 : decode cX1_gaps 15 = .ok (.iload_n 2, 1) := by decide +kernel
theorem dX1_gaps_16 : decode cX1_gaps 16 = .ok (.bipush 8, 2) := by decide +kernel
theorem dX1_gaps_18 : decode cX1_gaps 18 = .ok (.if_icmp .le 6, 3) := by decide +kernel
theorem dX1_gaps_21 : decode cX1_gaps 21 = .ok (.bipush (-2), 2) := by decide +kernel
theorem dX1_gaps_23 : decode cX1_gaps 23 = .ok (.ireturn, 1) := by decide +kernel
theorem dX1_gaps_24 : decode cX1_gaps 24 = .ok (.iconst 0, 1) := by decide +kernel
theorem dX1_gaps_25 : decode cX1_gaps 25 = .ok (.istore_n 3, 1) := by decide +kernel
theorem dX1_gaps_26 : decode cX1_gaps 26 = .ok (.iconst 0, 1) := by decide +kernel
theorem dX1_gaps_27 : decode cX1_gaps 27 = .ok (.istore 4, 2) := by decide +kernel
theorem dX1_gaps_29 : decode cX1_gaps 29 = .ok (.iload 4, 2) := by decide +kernel
theorem dX1_gaps_31 : decode cX1_gaps 31 = .ok (.bipush 16, 2) := by decide +kernel
theorem dX1_gaps_33 : decode cX1_gaps 33 = .ok (.if_icmp .ge 67, 3) := by decide +kernel
theorem dX1_gaps_36 : decode cX1_gaps 36 = .ok (.iconst 0, 1) := by decide +kernel
theorem dX1_gaps_37 : decode cX1_gaps 37 = .ok (.istore 5, 2) := by decide +kernel
theorem dX1_gaps_39 : decode cX1_gaps 39 = .ok (.iload 5, 2) := by decide +kernel
theorem dX1_gaps_41 : decode cX1_gaps 41 = .ok (.bipush 16, 2) := by decide +kernel
theorem dX1_gaps_43 : decode cX1_gaps 43 = .ok (.if_icmp .ge 51, 3) := by decide +kernel
theorem dX1_gaps_46 : decode cX1_gaps 46 = .ok (.aload_n 0, 1) := by decide +kernel
theorem dX1_gaps_47 : decode cX1_gaps 47 = .ok (.iload 5, 2) := by decide +kernel
theorem dX1_gaps_49 : decode cX1_gaps 49 = .ok (.iload 4, 2) := by decide +kernel
theorem dX1_gaps_51 : decode cX1_gaps 51 = .ok (.invokevirtual 40, 3) := by decide +kernel
theorem dX1_gaps_54 : decode cX1_gaps 54 = .ok (.ifCond .ne 34, 3) := by decide +kernel
theorem dX1_gaps_57 : decode cX1_gaps 57 = .ok (.aload_n 0, 1) := by decide +kernel
theorem dX1_gaps_58 : decode cX1_gaps 58 = .ok (.iload 5, 2) := by decide +kernel
theorem dX1_gaps_60 : decode cX1_gaps 60 = .ok (.iload 4, 2) := by decide +kernel
theorem dX1_gaps_62 : decode cX1_gaps 62 = .ok (.iconst 1, 1) := by decide +kernel
theorem dX1_gaps_63 : decode cX1_gaps 63 = .ok (.iconst 0, 1) := by decide +kernel
theorem dX1_gaps_64 : decode cX1_gaps 64 = .ok (.iload_n 2, 1) := by decide +kernel
theorem dX1_gaps_65 : decode cX1_gaps 65 = .ok (.invokevirtual 48, 3) := by decide +kernel
theorem dX1_gaps_68 : decode cX1_gaps 68 = .ok (.ifCond .ne 17, 3) := by decide +kernel
theorem dX1_gaps_71 : decode cX1_gaps 71 = .ok (.aload_n 0, 1) := by decide +kernel
theorem dX1_gaps_72 : decode cX1_gaps 72 = .ok (.iload 5, 2) := by decide +kernel
theorem dX1_gaps_74 : decode cX1_gaps 74 = .ok (.iload 4, 2) := by decide +kernel
theorem dX1_gaps_76 : decode cX1_gaps 76 = .ok (.iconst 0, 1) := by decide +kernel
theorem dX1_gaps_77 : decode cX1_gaps 77 = .ok (.iconst 1, 1) := by decide +kernel
theorem dX1_gaps_78 : decode cX1_gaps 78 = .ok (.iload_n 2, 1) := by decide +kernel
theorem dX1_gaps_79 : decode cX1_gaps 79 = .ok (.invokevirtual 48, 3) := by decide +kernel
theorem dX1_gaps_82 : decode cX1_gaps 82 = .ok (.ifCond .eq 6, 3) := by decide +kernel
theorem dX1_gaps_85 : decode cX1_gaps 85 = .ok (.iinc 3 1, 3) := by decide +kernel
theorem dX1_gaps_88 : decode cX1_gaps 88 = .ok (.iinc 5 1, 3) := by decide +kernel
theorem dX1_gaps_91 : decode cX1_gaps 91 = .ok (.goto (-52), 3) := by decide +kernel
theorem dX1_gaps_94 : decode cX1_gaps 94 = .ok (.iinc 4 1, 3) := by decide +kernel
theorem dX1_gaps_97 : decode cX1_gaps 97 = .ok (.goto (-68), 3) := by decide +kernel
theorem dX1_gaps_100 : decode cX1_gaps 100 = .ok (.iload_n 3, 1) := by decide +kernel
theorem dX1_gaps_101 : decode cX1_gaps 101 = .ok (.ireturn, 1) := by decide +kernel
theorem dX1_between_0 : decode cX1_between 0 = .ok (.aload_n 0, 1) := by decide +kernel
theorem dX1_between_1 : decode cX1_between 1 = .ok (.iload_n 1, 1) := by decide +kernel
theorem dX1_between_2 : decode cX1_between 2 = .ok (.iload_n 2, 1) := by decide +kernel
theorem dX1_between_3 : decode cX1_between 3 = .ok (.iload_n 3, 1) := by decide +kernel
theorem dX1_between_4 : decode cX1_between 4 = .ok (.iload 4, 2) := by decide +kernel
theorem dX1_between_6 : decode cX1_between 6 = .ok (.iconst 0, 1) := by decide +kernel
theorem dX1_between_7 : decode cX1_between 7 = .ok (.invokevirtual 44, 3) := by decide +kernel
theorem dX1_between_10 : decode cX1_between 10 = .ok (.istore 6, 2) := by decide +kernel
theorem dX1_between_12 : decode cX1_between 12 = .ok (.aload_n 0, 1) := by decide +kernel
theorem dX1_between_13 : decode cX1_between 13 = .ok (.iload_n 1, 1) := by decide +kernel
theorem dX1_between_14 : decode cX1_between 14 = .ok (.iload_n 2, 1) := by decide +kernel
theorem dX1_between_15 : decode cX1_between 15 = .ok (.iload_n 3, 1) := by decide +kernel
theorem dX1_between_16 : decode cX1_between 16 = .ok (.ineg, 1) := by decide +kernel
theorem dX1_between_17 : decode cX1_between 17 = .ok (.iload 4, 2) := by decide +kernel
theorem dX1_between_19 : decode cX1_between 19 = .ok (.ineg, 1) := by decide +kernel
theorem dX1_between_20 : decode cX1_between 20 = .ok (.iconst 0, 1) := by decide +kernel
theorem dX1_between_21 : decode cX1_between 21 = .ok (.invokevirtual 44, 3) := by decide +kernel
theorem dX1_between_24 : decode cX1_between 24 = .ok (.istore 7, 2) := by decide +kernel
theorem dX1_between_26 : decode cX1_between 26 = .ok (.aload_n 0, 1) := by decide +kernel
theorem dX1_between_27 : decode cX1_between 27 = .ok (.iload_n 1, 1) := by decide +kernel
theorem dX1_between_28 : decode cX1_between 28 = .ok (.iload 6, 2) := by decide +kernel
theorem dX1_between_30 : decode cX1_between 30 = .ok (.iload_n 3, 1) := by decide +kernel
theorem dX1_between_31 : decode cX1_between 31 = .ok (.imul, 1) := by decide +kernel
theorem dX1_between_32 : decode cX1_between 32 = .ok (.iadd, 1) := by decide +kernel
theorem dX1_between_33 : decode cX1_between 33 = .ok (.iload_n 2, 1) := by decide +kernel
theorem dX1_between_34 : decode cX1_between 34 = .ok (.iload 6, 2) := by decide +kernel
theorem dX1_between_36 : decode cX1_between 36 = .ok (.iload 4, 2) := by decide +kernel
theorem dX1_between_38 : decode cX1_between 38 = .ok (.imul, 1) := by decide +kernel
theorem dX1_between_39 : decode cX1_between 39 = .ok (.iadd, 1) := by decide +kernel
theorem dX1_between_40 : decode cX1_between 40 = .ok (.invokevirtual 40, 3) := by decide +kernel
theorem dX1_between_43 : decode cX1_between 43 = .ok (.ifCond .eq 39, 3) := by decide +kernel
theorem dX1_between_46 : decode cX1_between 46 = .ok (.aload_n 0, 1) := by decide +kernel
theorem dX1_between_47 : decode cX1_between 47 = .ok (.iload_n 1, 1) := by decide +kernel
theorem dX1_between_48 : decode cX1_between 48 = .ok (.iload 7, 2) := by decide +kernel
theorem dX1_between_50 : decode cX1_between 50 = .ok (.iload_n 3, 1) := by decide +kernel
theorem dX1_between_51 : decode cX1_between 51 = .ok (.imul, 1) := by decide +kernel
theorem dX1_between_52 : decode cX1_between 52 = .ok (.isub, 1) := by decide +kernel
theorem dX1_between_53 : decode cX1_between 53 = .ok (.iload_n 2, 1) := by decide +kernel
theorem dX1_between_54 : decode cX1_between 54 = .ok (.iload 7, 2) := by decide +kernel
theorem dX1_between_56 : decode cX1_between 56 = .ok (.iload 4, 2) := by decide +kernel
theorem dX1_between_58 : decode cX1_between 58 = .ok (.imul, 1) := by decide +kernel
theorem dX1_between_59 : decode cX1_between 59 = .ok (.isub, 1) := by decide +kernel
theorem dX1_between_60 : decode cX1_between 60 = .ok (.invokevirtual 40, 3) := by decide +kernel
theorem dX1_between_63 : decode cX1_between 63 = .ok (.ifCond .eq 19, 3) := by decide +kernel
theorem dX1_between_66 : decode cX1_between 66 = .ok (.iload 6, 2) := by decide +kernel
theorem dX1_between_68 : decode cX1_between 68 = .ok (.iload 7, 2) := by decide +kernel
theorem dX1_between_70 : decode cX1_between 70 = .ok (.iadd, 1) := by decide +kernel
theorem dX1_between_71 : decode cX1_between 71 = .ok (.iconst 1, 1) := by decide +kernel
theorem dX1_between_72 : decode cX1_between 72 = .ok (.isub, 1) := by decide +kernel
theorem dX1_between_73 : decode cX1_between 73 = .ok (.iload 5, 2) := by decide +kernel
theorem dX1_between_75 : decode cX1_between 75 = .ok (.if_icmp .ge 7, 3) := by decide +kernel
theorem dX1_between_78 : decode cX1_between 78 = .ok (.iconst 1, 1) := by decide +kernel
theorem dX1_between_79 : decode cX1_between 79 = .ok (.goto 4, 3) := by decide +kernel
theorem dX1_between_82 : decode cX1_between 82 = .ok (.iconst 0, 1) := by decide +kernel
theorem dX1_between_83 : decode cX1_between 83 = .ok (.ireturn, 1) := by decide +kernel
theorem dX1_enclosure_0 : decode cX1_enclosure 0 = .ok (.aload_n 0, 1) := by decide +kernel
theorem dX1_enclosure_1 : decode cX1_enclosure 1 = .ok (.iload_n 2, 1) := by decide +kernel
theorem dX1_enclosure_2 : decode cX1_enclosure 2 = .ok (.invokevirtual 29, 3) := by decide +kernel
theorem dX1_enclosure_5 : decode cX1_enclosure 5 = .ok (.ifCond .eq 13, 3) := by decide +kernel
theorem dX1_enclosure_8 : decode cX1_enclosure 8 = .ok (.aload_n 0, 1) := by decide +kernel
theorem dX1_enclosure_9 : decode cX1_enclosure 9 = .ok (.iconst 0, 1) := by decide +kernel
theorem dX1_enclosure_10 : decode cX1_enclosure 10 = .ok (.iload_n 1, 1) := by decide +kernel
theorem dX1_enclosure_11 : decode cX1_enclosure 11 = .ok (.iload_n 1, 1) := by decide +kernel
theorem dX1_enclosure_12 : decode cX1_enclosure 12 = .ok (.invokevirtual 37, 3) := by decide +kernel
theorem dX1_enclosure_15 : decode cX1_enclosure 15 = .ok (.ifCond .ne 6, 3) := by decide +kernel
theorem dX1_enclosure_18 : decode cX1_enclosure 18 = .ok (.bipush (-2), 2) := by decide +kernel
theorem dX1_enclosure_20 : decode cX1_enclosure 20 = .ok (.ireturn, 1) := by decide +kernel
theorem dX1_enclosure_21 : decode cX1_enclosure 21 = .ok (.iconst 0, 1) := by decide +kernel
theorem dX1_enclosure_22 : decode cX1_enclosure 22 = .ok (.istore_n 3, 1) := by decide +kernel
theorem dX1_enclosure_23 : decode cX1_enclosure 23 = .ok (.iload_n 3, 1) := by decide +kernel
theorem dX1_enclosure_24 : decode cX1_enclosure 24 = .ok (.bipush 8, 2) := by decide +kernel
theorem dX1_enclosure_26 : decode cX1_enclosure 26 = .ok (.if_icmp .gt 22, 3) := by decide +kernel
theorem dX1_enclosure_29 : decode cX1_enclosure 29 = .ok (.aload_n 0, 1) := by decide +kernel
theorem dX1_enclosure_30 : decode cX1_enclosure 30 = .ok (.iload_n 2, 1) := by decide +kernel
theorem dX1_enclosure_31 : decode cX1_enclosure 31 = .ok (.iload_n 3, 1) := by decide +kernel
theorem dX1_enclosure_32 : decode cX1_enclosure 32 = .ok (.invokevirtual 55, 3) := by decide +kernel
theorem dX1_enclosure_35 : decode cX1_enclosure 35 = .ok (.ifCond .ne 7, 3) := by decide +kernel
theorem dX1_enclosure_38 : decode cX1_enclosure 38 = .ok (.iload_n 3, 1) := by decide +kernel
theorem dX1_enclosure_39 : decode cX1_enclosure 39 = .ok (.iconst 1, 1) := by decide +kernel
theorem dX1_enclosure_40 : decode cX1_enclosure 40 = .ok (.isub, 1) := by decide +kernel
theorem dX1_enclosure_41 : decode cX1_enclosure 41 = .ok (.ireturn, 1) := by decide +kernel
theorem dX1_enclosure_42 : decode cX1_enclosure 42 = .ok (.iinc 3 1, 3) := by decide +kernel
theorem dX1_enclosure_45 : decode cX1_enclosure 45 = .ok (.goto (-22), 3) := by decide +kernel
theorem dX1_enclosure_48 : decode cX1_enclosure 48 = .ok (.bipush 8, 2) := by decide +kernel
theorem dX1_enclosure_50 : decode cX1_enclosure 50 = .ok (.ireturn, 1) := by decide +kernel
theorem dX1_encloses_0 : decode cX1_encloses 0 = .ok (.iconst 0, 1) := by decide +kernel
theorem dX1_encloses_1 : decode cX1_encloses 1 = .ok (.istore_n 3, 1) := by decide +kernel
theorem dX1_encloses_2 : decode cX1_encloses 2 = .ok (.iload_n 3, 1) := by decide +kernel
theorem dX1_encloses_3 : decode cX1_encloses 3 = .ok (.sipush 256, 3) := by decide +kernel
theorem dX1_encloses_6 : decode cX1_encloses 6 = .ok (.if_icmp .ge 43, 3) := by decide +kernel
theorem dX1_encloses_9 : decode cX1_encloses 9 = .ok (.aload_n 0, 1) := by decide +kernel
theorem dX1_encloses_10 : decode cX1_encloses 10 = .ok (.iload_n 1, 1) := by decide +kernel
theorem dX1_encloses_11 : decode cX1_encloses 11 = .ok (.iload_n 3, 1) := by decide +kernel
theorem dX1_encloses_12 : decode cX1_encloses 12 = .ok (.bipush 16, 2) := by decide +kernel
theorem dX1_encloses_14 : decode cX1_encloses 14 = .ok (.irem, 1) := by decide +kernel
theorem dX1_encloses_15 : decode cX1_encloses 15 = .ok (.iload_n 3, 1) := by decide +kernel
theorem dX1_encloses_16 : decode cX1_encloses 16 = .ok (.bipush 16, 2) := by decide +kernel
theorem dX1_encloses_18 : decode cX1_encloses 18 = .ok (.idiv, 1) := by decide +kernel
theorem dX1_encloses_19 : decode cX1_encloses 19 = .ok (.invokevirtual 33, 3) := by decide +kernel
theorem dX1_encloses_22 : decode cX1_encloses 22 = .ok (.ifCond .eq 21, 3) := by decide +kernel
theorem dX1_encloses_25 : decode cX1_encloses 25 = .ok (.aload_n 0, 1) := by decide +kernel
theorem dX1_encloses_26 : decode cX1_encloses 26 = .ok (.iload_n 3, 1) := by decide +kernel
theorem dX1_encloses_27 : decode cX1_encloses 27 = .ok (.bipush 16, 2) := by decide +kernel
theorem dX1_encloses_29 : decode cX1_encloses 29 = .ok (.irem, 1) := by decide +kernel
theorem dX1_encloses_30 : decode cX1_encloses 30 = .ok (.iload_n 3, 1) := by decide +kernel
theorem dX1_encloses_31 : decode cX1_encloses 31 = .ok (.bipush 16, 2) := by decide +kernel
theorem dX1_encloses_33 : decode cX1_encloses 33 = .ok (.idiv, 1) := by decide +kernel
theorem dX1_encloses_34 : decode cX1_encloses 34 = .ok (.iload_n 2, 1) := by decide +kernel
theorem dX1_encloses_35 : decode cX1_encloses 35 = .ok (.invokevirtual 52, 3) := by decide +kernel
theorem dX1_encloses_38 : decode cX1_encloses 38 = .ok (.ifCond .ne 5, 3) := by decide +kernel
theorem dX1_encloses_41 : decode cX1_encloses 41 = .ok (.iconst 0, 1) := by decide +kernel
theorem dX1_encloses_42 : decode cX1_encloses 42 = .ok (.ireturn, 1) := by decide +kernel
theorem dX1_encloses_43 : decode cX1_encloses 43 = .ok (.iinc 3 1, 3) := by decide +kernel
theorem dX1_encloses_46 : decode cX1_encloses 46 = .ok (.goto (-44), 3) := by decide +kernel
theorem dX1_encloses_49 : decode cX1_encloses 49 = .ok (.iconst 1, 1) := by decide +kernel
theorem dX1_encloses_50 : decode cX1_encloses 50 = .ok (.ireturn, 1) := by decide +kernel
theorem dX1_around_0 : decode cX1_around 0 = .ok (.iload_n 2, 1) := by decide +kernel
theorem dX1_around_1 : decode cX1_around 1 = .ok (.iload_n 3, 1) := by decide +kernel
theorem dX1_around_2 : decode cX1_around 2 = .ok (.isub, 1) := by decide +kernel
theorem dX1_around_3 : decode cX1_around 3 = .ok (.istore 4, 2) := by decide +kernel
theorem dX1_around_5 : decode cX1_around 5 = .ok (.iload 4, 2) := by decide +kernel
theorem dX1_around_7 : decode cX1_around 7 = .ok (.iload_n 2, 1) := by decide +kernel
theorem dX1_around_8 : decode cX1_around 8 = .ok (.iload_n 3, 1) := by decide +kernel
theorem dX1_around_9 : decode cX1_around 9 = .ok (.iadd, 1) := by decide +kernel
theorem dX1_around_10 : decode cX1_around 10 = .ok (.if_icmp .gt 65, 3) := by decide +kernel
theorem dX1_around_13 : decode cX1_around 13 = .ok (.iload_n 1, 1) := by decide +kernel
theorem dX1_around_14 : decode cX1_around 14 = .ok (.iload_n 3, 1) := by decide +kernel
theorem dX1_around_15 : decode cX1_around 15 = .ok (.isub, 1) := by decide +kernel
theorem dX1_around_16 : decode cX1_around 16 = .ok (.istore 5, 2) := by decide +kernel
theorem dX1_around_18 : decode cX1_around 18 = .ok (.iload 5, 2) := by decide +kernel
theorem dX1_around_20 : decode cX1_around 20 = .ok (.iload_n 1, 1) := by decide +kernel
theorem dX1_around_21 : decode cX1_around 21 = .ok (.iload_n 3, 1) := by decide +kernel
theorem dX1_around_22 : decode cX1_around 22 = .ok (.iadd, 1) := by decide +kernel
theorem dX1_around_23 : decode cX1_around 23 = .ok (.if_icmp .gt 46, 3) := by decide +kernel
theorem dX1_around_26 : decode cX1_around 26 = .ok (.iload 5, 2) := by decide +kernel
theorem dX1_around_28 : decode cX1_around 28 = .ok (.ifCond .lt 35, 3) := by decide +kernel
theorem dX1_around_31 : decode cX1_around 31 = .ok (.iload 5, 2) := by decide +kernel
theorem dX1_around_33 : decode cX1_around 33 = .ok (.bipush 15, 2) := by decide +kernel
theorem dX1_around_35 : decode cX1_around 35 = .ok (.if_icmp .gt 28, 3) := by decide +kernel
theorem dX1_around_38 : decode cX1_around 38 = .ok (.iload 4, 2) := by decide +kernel
theorem dX1_around_40 : decode cX1_around 40 = .ok (.ifCond .lt 23, 3) := by decide +kernel
theorem dX1_around_43 : decode cX1_around 43 = .ok (.iload 4, 2) := by decide +kernel
theorem dX1_around_45 : decode cX1_around 45 = .ok (.bipush 15, 2) := by decide +kernel
theorem dX1_around_47 : decode cX1_around 47 = .ok (.if_icmp .gt 16, 3) := by decide +kernel
theorem dX1_around_50 : decode cX1_around 50 = .ok (.aload_n 0, 1) := by decide +kernel
theorem dX1_around_51 : decode cX1_around 51 = .ok (.iload 5, 2) := by decide +kernel
theorem dX1_around_53 : decode cX1_around 53 = .ok (.iload 4, 2) := by decide +kernel
theorem dX1_around_55 : decode cX1_around 55 = .ok (.invokevirtual 40, 3) := by decide +kernel
theorem dX1_around_58 : decode cX1_around 58 = .ok (.ifCond .ne 5, 3) := by decide +kernel
theorem dX1_around_61 : decode cX1_around 61 = .ok (.iconst 0, 1) := by decide +kernel
theorem dX1_around_62 : decode cX1_around 62 = .ok (.ireturn, 1) := by decide +kernel
theorem dX1_around_63 : decode cX1_around 63 = .ok (.iinc 5 1, 3) := by decide +kernel
theorem dX1_around_66 : decode cX1_around 66 = .ok (.goto (-48), 3) := by decide +kernel
theorem dX1_around_69 : decode cX1_around 69 = .ok (.iinc 4 1, 3) := by decide +kernel
theorem dX1_around_72 : decode cX1_around 72 = .ok (.goto (-67), 3) := by decide +kernel
theorem dX1_around_75 : decode cX1_around 75 = .ok (.iconst 1, 1) := by decide +kernel
theorem dX1_around_76 : decode cX1_around 76 = .ok (.ireturn, 1) := by decide +kernel
end
section
set_option maxRecDepth 100000
theorem dL_law_0 : decode cL_law 0 = .ok (.new 7, 3) := by decide +kernel
theorem dL_law_3 : decode cL_law 3 = .ok (.dup, 1) := by decide +kernel
theorem dL_law_4 : decode cL_law 4 = .ok (.invokespecial 9, 3) := by decide +kernel
theorem dL_law_7 : decode cL_law 7 = .ok (.astore_n 1, 1) := by decide +kernel
theorem dL_law_8 : decode cL_law 8 = .ok (.new 10, 3) := by decide +kernel
theorem dL_law_11 : decode cL_law 11 = .ok (.dup, 1) := by decide +kernel
theorem dL_law_12 : decode cL_law 12 = .ok (.invokespecial 12, 3) := by decide +kernel
theorem dL_law_15 : decode cL_law 15 = .ok (.astore_n 2, 1) := by decide +kernel
theorem dL_law_16 : decode cL_law 16 = .ok (.iconst 0, 1) := by decide +kernel
theorem dL_law_17 : decode cL_law 17 = .ok (.istore_n 3, 1) := by decide +kernel
theorem dL_law_18 : decode cL_law 18 = .ok (.iload_n 3, 1) := by decide +kernel
theorem dL_law_19 : decode cL_law 19 = .ok (.aload_n 0, 1) := by decide +kernel
theorem dL_law_20 : decode cL_law 20 = .ok (.arraylength, 1) := by decide +kernel
theorem dL_law_21 : decode cL_law 21 = .ok (.iconst 4, 1) := by decide +kernel
theorem dL_law_22 : decode cL_law 22 = .ok (.isub, 1) := by decide +kernel
theorem dL_law_23 : decode cL_law 23 = .ok (.if_icmp .gt 404, 3) := by decide +kernel
theorem dL_law_26 : decode cL_law 26 = .ok (.aload_n 0, 1) := by decide +kernel
theorem dL_law_27 : decode cL_law 27 = .ok (.iload_n 3, 1) := by decide +kernel
theorem dL_law_28 : decode cL_law 28 = .ok (.iaload, 1) := by decide +kernel
theorem dL_law_29 : decode cL_law 29 = .ok (.bipush 15, 2) := by decide +kernel
theorem dL_law_31 : decode cL_law 31 = .ok (.iand, 1) := by decide +kernel
theorem dL_law_32 : decode cL_law 32 = .ok (.tableswitch 389 0 8 #[52, 95, 118, 161, 204, 247, 290, 323, 356], 52) := by decide +kernel
theorem dL_law_84 : decode cL_law 84 = .ok (.aload_n 1, 1) := by decide +kernel
theorem dL_law_85 : decode cL_law 85 = .ok (.aload_n 0, 1) := by decide +kernel
theorem dL_law_86 : decode cL_law 86 = .ok (.iload_n 3, 1) := by decide +kernel
theorem dL_law_87 : decode cL_law 87 = .ok (.iconst 1, 1) := by decide +kernel
theorem dL_law_88 : decode cL_law 88 = .ok (.iadd, 1) := by decide +kernel
theorem dL_law_89 : decode cL_law 89 = .ok (.iaload, 1) := by decide +kernel
theorem dL_law_90 : decode cL_law 90 = .ok (.aload_n 0, 1) := by decide +kernel
theorem dL_law_91 : decode cL_law 91 = .ok (.iload_n 3, 1) := by decide +kernel
theorem dL_law_92 : decode cL_law 92 = .ok (.iconst 2, 1) := by decide +kernel
theorem dL_law_93 : decode cL_law 93 = .ok (.iadd, 1) := by decide +kernel
theorem dL_law_94 : decode cL_law 94 = .ok (.iaload, 1) := by decide +kernel
theorem dL_law_95 : decode cL_law 95 = .ok (.aload_n 0, 1) := by decide +kernel
theorem dL_law_96 : decode cL_law 96 = .ok (.iload_n 3, 1) := by decide +kernel
theorem dL_law_97 : decode cL_law 97 = .ok (.iconst 3, 1) := by decide +kernel
theorem dL_law_98 : decode cL_law 98 = .ok (.iadd, 1) := by decide +kernel
theorem dL_law_99 : decode cL_law 99 = .ok (.iaload, 1) := by decide +kernel
theorem dL_law_100 : decode cL_law 100 = .ok (.invokevirtual 13, 3) := by decide +kernel
theorem dL_law_103 : decode cL_law 103 = .ok (.aload_n 2, 1) := by decide +kernel
theorem dL_law_104 : decode cL_law 104 = .ok (.aload_n 0, 1) := by decide +kernel
theorem dL_law_105 : decode cL_law 105 = .ok (.iload_n 3, 1) := by decide +kernel
theorem dL_law_106 : decode cL_law 106 = .ok (.iconst 1, 1) := by decide +kernel
theorem dL_law_107 : decode cL_law 107 = .ok (.iadd, 1) := by decide +kernel
theorem dL_law_108 : decode cL_law 108 = .ok (.iaload, 1) := by decide +kernel
theorem dL_law_109 : decode cL_law 109 = .ok (.aload_n 0, 1) := by decide +kernel
theorem dL_law_110 : decode cL_law 110 = .ok (.iload_n 3, 1) := by decide +kernel
theorem dL_law_111 : decode cL_law 111 = .ok (.iconst 2, 1) := by decide +kernel
theorem dL_law_112 : decode cL_law 112 = .ok (.iadd, 1) := by decide +kernel
theorem dL_law_113 : decode cL_law 113 = .ok (.iaload, 1) := by decide +kernel
theorem dL_law_114 : decode cL_law 114 = .ok (.aload_n 0, 1) := by decide +kernel
theorem dL_law_115 : decode cL_law 115 = .ok (.iload_n 3, 1) := by decide +kernel
theorem dL_law_116 : decode cL_law 116 = .ok (.iconst 3, 1) := by decide +kernel
theorem dL_law_117 : decode cL_law 117 = .ok (.iadd, 1) := by decide +kernel
theorem dL_law_118 : decode cL_law 118 = .ok (.iaload, 1) := by decide +kernel
theorem dL_law_119 : decode cL_law 119 = .ok (.invokevirtual 17, 3) := by decide +kernel
theorem dL_law_122 : decode cL_law 122 = .ok (.if_icmp .eq 299, 3) := by decide +kernel
theorem dL_law_125 : decode cL_law 125 = .ok (.iconst 0, 1) := by decide +kernel
theorem dL_law_126 : decode cL_law 126 = .ok (.ireturn, 1) := by decide +kernel
theorem dL_law_127 : decode cL_law 127 = .ok (.aload_n 1, 1) := by decide +kernel
theorem dL_law_128 : decode cL_law 128 = .ok (.aload_n 0, 1) := by decide +kernel
theorem dL_law_129 : decode cL_law 129 = .ok (.iload_n 3, 1) := by decide +kernel
theorem dL_law_130 : decode cL_law 130 = .ok (.iconst 1, 1) := by decide +kernel
theorem dL_law_131 : decode cL_law 131 = .ok (.iadd, 1) := by decide +kernel
theorem dL_law_132 : decode cL_law 132 = .ok (.iaload, 1) := by decide +kernel
theorem dL_law_133 : decode cL_law 133 = .ok (.invokevirtual 18, 3) := by decide +kernel
theorem dL_law_136 : decode cL_law 136 = .ok (.aload_n 2, 1) := by decide +kernel
theorem dL_law_137 : decode cL_law 137 = .ok (.aload_n 0, 1) := by decide +kernel
theorem dL_law_138 : decode cL_law 138 = .ok (.iload_n 3, 1) := by decide +kernel
theorem dL_law_139 : decode cL_law 139 = .ok (.iconst 1, 1) := by decide +kernel
theorem dL_law_140 : decode cL_law 140 = .ok (.iadd, 1) := by decide +kernel
theorem dL_law_141 : decode cL_law 141 = .ok (.iaload, 1) := by decide +kernel
theorem dL_law_142 : decode cL_law 142 = .ok (.invokevirtual 22, 3) := by decide +kernel
theorem dL_law_145 : decode cL_law 145 = .ok (.if_icmp .eq 276, 3) := by decide +kernel
theorem dL_law_148 : decode cL_law 148 = .ok (.iconst 0, 1) := by decide +kernel
theorem dL_law_149 : decode cL_law 149 = .ok (.ireturn, 1) := by decide +kernel
theorem dL_law_150 : decode cL_law 150 = .ok (.aload_n 1, 1) := by decide +kernel
theorem dL_law_151 : decode cL_law 151 = .ok (.aload_n 0, 1) := by decide +kernel
theorem dL_law_152 : decode cL_law 152 = .ok (.iload_n 3, 1) := by decide +kernel
theorem dL_law_153 : decode cL_law 153 = .ok (.iconst 1, 1) := by decide +kernel
theorem dL_law_154 : decode cL_law 154 = .ok (.iadd, 1) := by decide +kernel
theorem dL_law_155 : decode cL_law 155 = .ok (.iaload, 1) := by decide +kernel
theorem dL_law_156 : decode cL_law 156 = .ok (.aload_n 0, 1) := by decide +kernel
theorem dL_law_157 : decode cL_law 157 = .ok (.iload_n 3, 1) := by decide +kernel
theorem dL_law_158 : decode cL_law 158 = .ok (.iconst 2, 1) := by decide +kernel
theorem dL_law_159 : decode cL_law 159 = .ok (.iadd, 1) := by decide +kernel
theorem dL_law_160 : decode cL_law 160 = .ok (.iaload, 1) := by decide +kernel
theorem dL_law_161 : decode cL_law 161 = .ok (.aload_n 0, 1) := by decide +kernel
theorem dL_law_162 : decode cL_law 162 = .ok (.iload_n 3, 1) := by decide +kernel
theorem dL_law_163 : decode cL_law 163 = .ok (.iconst 3, 1) := by decide +kernel
theorem dL_law_164 : decode cL_law 164 = .ok (.iadd, 1) := by decide +kernel
theorem dL_law_165 : decode cL_law 165 = .ok (.iaload, 1) := by decide +kernel
theorem dL_law_166 : decode cL_law 166 = .ok (.invokevirtual 23, 3) := by decide +kernel
theorem dL_law_169 : decode cL_law 169 = .ok (.aload_n 2, 1) := by decide +kernel
theorem dL_law_170 : decode cL_law 170 = .ok (.aload_n 0, 1) := by decide +kernel
theorem dL_law_171 : decode cL_law 171 = .ok (.iload_n 3, 1) := by decide +kernel
theorem dL_law_172 : decode cL_law 172 = .ok (.iconst 1, 1) := by decide +kernel
theorem dL_law_173 : decode cL_law 173 = .ok (.iadd, 1) := by decide +kernel
theorem dL_law_174 : decode cL_law 174 = .ok (.iaload, 1) := by decide +kernel
theorem dL_law_175 : decode cL_law 175 = .ok (.aload_n 0, 1) := by decide +kernel
theorem dL_law_176 : decode cL_law 176 = .ok (.iload_n 3, 1) := by decide +kernel
theorem dL_law_177 : decode cL_law 177 = .ok (.iconst 2, 1) := by decide +kernel
theorem dL_law_178 : decode cL_law 178 = .ok (.iadd, 1) := by decide +kernel
theorem dL_law_179 : decode cL_law 179 = .ok (.iaload, 1) := by decide +kernel
theorem dL_law_180 : decode cL_law 180 = .ok (.aload_n 0, 1) := by decide +kernel
theorem dL_law_181 : decode cL_law 181 = .ok (.iload_n 3, 1) := by decide +kernel
theorem dL_law_182 : decode cL_law 182 = .ok (.iconst 3, 1) := by decide +kernel
theorem dL_law_183 : decode cL_law 183 = .ok (.iadd, 1) := by decide +kernel
theorem dL_law_184 : decode cL_law 184 = .ok (.iaload, 1) := by decide +kernel
theorem dL_law_185 : decode cL_law 185 = .ok (.invokevirtual 27, 3) := by decide +kernel
theorem dL_law_188 : decode cL_law 188 = .ok (.if_icmp .eq 233, 3) := by decide +kernel
theorem dL_law_191 : decode cL_law 191 = .ok (.iconst 0, 1) := by decide +kernel
theorem dL_law_192 : decode cL_law 192 = .ok (.ireturn, 1) := by decide +kernel
theorem dL_law_193 : decode cL_law 193 = .ok (.aload_n 1, 1) := by decide +kernel
theorem dL_law_194 : decode cL_law 194 = .ok (.aload_n 0, 1) := by decide +kernel
theorem dL_law_195 : decode cL_law 195 = .ok (.iload_n 3, 1) := by decide +kernel
theorem dL_law_196 : decode cL_law 196 = .ok (.iconst 1, 1) := by decide +kernel
theorem dL_law_197 : decode cL_law 197 = .ok (.iadd, 1) := by decide +kernel
theorem dL_law_198 : decode cL_law 198 = .ok (.iaload, 1) := by decide +kernel
theorem dL_law_199 : decode cL_law 199 = .ok (.aload_n 0, 1) := by decide +kernel
theorem dL_law_200 : decode cL_law 200 = .ok (.iload_n 3, 1) := by decide +kernel
theorem dL_law_201 : decode cL_law 201 = .ok (.iconst 2, 1) := by decide +kernel
theorem dL_law_202 : decode cL_law 202 = .ok (.iadd, 1) := by decide +kernel
theorem dL_law_203 : decode cL_law 203 = .ok (.iaload, 1) := by decide +kernel
theorem dL_law_204 : decode cL_law 204 = .ok (.aload_n 0, 1) := by decide +kernel
theorem dL_law_205 : decode cL_law 205 = .ok (.iload_n 3, 1) := by decide +kernel
theorem dL_law_206 : decode cL_law 206 = .ok (.iconst 3, 1) := by decide +kernel
theorem dL_law_207 : decode cL_law 207 = .ok (.iadd, 1) := by decide +kernel
theorem dL_law_208 : decode cL_law 208 = .ok (.iaload, 1) := by decide +kernel
theorem dL_law_209 : decode cL_law 209 = .ok (.invokevirtual 28, 3) := by decide +kernel
theorem dL_law_212 : decode cL_law 212 = .ok (.aload_n 2, 1) := by decide +kernel
theorem dL_law_213 : decode cL_law 213 = .ok (.aload_n 0, 1) := by decide +kernel
theorem dL_law_214 : decode cL_law 214 = .ok (.iload_n 3, 1) := by decide +kernel
theorem dL_law_215 : decode cL_law 215 = .ok (.iconst 1, 1) := by decide +kernel
theorem dL_law_216 : decode cL_law 216 = .ok (.iadd, 1) := by decide +kernel
theorem dL_law_217 : decode cL_law 217 = .ok (.iaload, 1) := by decide +kernel
theorem dL_law_218 : decode cL_law 218 = .ok (.aload_n 0, 1) := by decide +kernel
theorem dL_law_219 : decode cL_law 219 = .ok (.iload_n 3, 1) := by decide +kernel
theorem dL_law_220 : decode cL_law 220 = .ok (.iconst 2, 1) := by decide +kernel
theorem dL_law_221 : decode cL_law 221 = .ok (.iadd, 1) := by decide +kernel
theorem dL_law_222 : decode cL_law 222 = .ok (.iaload, 1) := by decide +kernel
theorem dL_law_223 : decode cL_law 223 = .ok (.aload_n 0, 1) := by decide +kernel
theorem dL_law_224 : decode cL_law 224 = .ok (.iload_n 3, 1) := by decide +kernel
theorem dL_law_225 : decode cL_law 225 = .ok (.iconst 3, 1) := by decide +kernel
theorem dL_law_226 : decode cL_law 226 = .ok (.iadd, 1) := by decide +kernel
theorem dL_law_227 : decode cL_law 227 = .ok (.iaload, 1) := by decide +kernel
theorem dL_law_228 : decode cL_law 228 = .ok (.invokevirtual 31, 3) := by decide +kernel
theorem dL_law_231 : decode cL_law 231 = .ok (.if_icmp .eq 190, 3) := by decide +kernel
theorem dL_law_234 : decode cL_law 234 = .ok (.iconst 0, 1) := by decide +kernel
theorem dL_law_235 : decode cL_law 235 = .ok (.ireturn, 1) := by decide +kernel
theorem dL_law_236 : decode cL_law 236 = .ok (.aload_n 1, 1) := by decide +kernel
theorem dL_law_237 : decode cL_law 237 = .ok (.aload_n 0, 1) := by decide +kernel
theorem dL_law_238 : decode cL_law 238 = .ok (.iload_n 3, 1) := by decide +kernel
theorem dL_law_239 : decode cL_law 239 = .ok (.iconst 1, 1) := by decide +kernel
theorem dL_law_240 : decode cL_law 240 = .ok (.iadd, 1) := by decide +kernel
theorem dL_law_241 : decode cL_law 241 = .ok (.iaload, 1) := by decide +kernel
theorem dL_law_242 : decode cL_law 242 = .ok (.aload_n 0, 1) := by decide +kernel
theorem dL_law_243 : decode cL_law 243 = .ok (.iload_n 3, 1) := by decide +kernel
theorem dL_law_244 : decode cL_law 244 = .ok (.iconst 2, 1) := by decide +kernel
theorem dL_law_245 : decode cL_law 245 = .ok (.iadd, 1) := by decide +kernel
theorem dL_law_246 : decode cL_law 246 = .ok (.iaload, 1) := by decide +kernel
theorem dL_law_247 : decode cL_law 247 = .ok (.aload_n 0, 1) := by decide +kernel
theorem dL_law_248 : decode cL_law 248 = .ok (.iload_n 3, 1) := by decide +kernel
theorem dL_law_249 : decode cL_law 249 = .ok (.iconst 3, 1) := by decide +kernel
theorem dL_law_250 : decode cL_law 250 = .ok (.iadd, 1) := by decide +kernel
theorem dL_law_251 : decode cL_law 251 = .ok (.iaload, 1) := by decide +kernel
theorem dL_law_252 : decode cL_law 252 = .ok (.invokevirtual 32, 3) := by decide +kernel
theorem dL_law_255 : decode cL_law 255 = .ok (.aload_n 2, 1) := by decide +kernel
theorem dL_law_256 : decode cL_law 256 = .ok (.aload_n 0, 1) := by decide +kernel
theorem dL_law_257 : decode cL_law 257 = .ok (.iload_n 3, 1) := by decide +kernel
theorem dL_law_258 : decode cL_law 258 = .ok (.iconst 1, 1) := by decide +kernel
theorem dL_law_259 : decode cL_law 259 = .ok (.iadd, 1) := by decide +kernel
theorem dL_law_260 : decode cL_law 260 = .ok (.iaload, 1) := by decide +kernel
theorem dL_law_261 : decode cL_law 261 = .ok (.aload_n 0, 1) := by decide +kernel
theorem dL_law_262 : decode cL_law 262 = .ok (.iload_n 3, 1) := by decide +kernel
theorem dL_law_263 : decode cL_law 263 = .ok (.iconst 2, 1) := by decide +kernel
theorem dL_law_264 : decode cL_law 264 = .ok (.iadd, 1) := by decide +kernel
theorem dL_law_265 : decode cL_law 265 = .ok (.iaload, 1) := by decide +kernel
theorem dL_law_266 : decode cL_law 266 = .ok (.aload_n 0, 1) := by decide +kernel
theorem dL_law_267 : decode cL_law 267 = .ok (.iload_n 3, 1) := by decide +kernel
theorem dL_law_268 : decode cL_law 268 = .ok (.iconst 3, 1) := by decide +kernel
theorem dL_law_269 : decode cL_law 269 = .ok (.iadd, 1) := by decide +kernel
theorem dL_law_270 : decode cL_law 270 = .ok (.iaload, 1) := by decide +kernel
theorem dL_law_271 : decode cL_law 271 = .ok (.invokevirtual 35, 3) := by decide +kernel
theorem dL_law_274 : decode cL_law 274 = .ok (.if_icmp .eq 147, 3) := by decide +kernel
theorem dL_law_277 : decode cL_law 277 = .ok (.iconst 0, 1) := by decide +kernel
theorem dL_law_278 : decode cL_law 278 = .ok (.ireturn, 1) := by decide +kernel
theorem dL_law_279 : decode cL_law 279 = .ok (.aload_n 1, 1) := by decide +kernel
theorem dL_law_280 : decode cL_law 280 = .ok (.aload_n 0, 1) := by decide +kernel
theorem dL_law_281 : decode cL_law 281 = .ok (.iload_n 3, 1) := by decide +kernel
theorem dL_law_282 : decode cL_law 282 = .ok (.iconst 1, 1) := by decide +kernel
theorem dL_law_283 : decode cL_law 283 = .ok (.iadd, 1) := by decide +kernel
theorem dL_law_284 : decode cL_law 284 = .ok (.iaload, 1) := by decide +kernel
theorem dL_law_285 : decode cL_law 285 = .ok (.aload_n 0, 1) := by decide +kernel
theorem dL_law_286 : decode cL_law 286 = .ok (.iload_n 3, 1) := by decide +kernel
theorem dL_law_287 : decode cL_law 287 = .ok (.iconst 2, 1) := by decide +kernel
theorem dL_law_288 : decode cL_law 288 = .ok (.iadd, 1) := by decide +kernel
theorem dL_law_289 : decode cL_law 289 = .ok (.iaload, 1) := by decide +kernel
theorem dL_law_290 : decode cL_law 290 = .ok (.aload_n 0, 1) := by decide +kernel
theorem dL_law_291 : decode cL_law 291 = .ok (.iload_n 3, 1) := by decide +kernel
theorem dL_law_292 : decode cL_law 292 = .ok (.iconst 3, 1) := by decide +kernel
theorem dL_law_293 : decode cL_law 293 = .ok (.iadd, 1) := by decide +kernel
theorem dL_law_294 : decode cL_law 294 = .ok (.iaload, 1) := by decide +kernel
theorem dL_law_295 : decode cL_law 295 = .ok (.invokevirtual 36, 3) := by decide +kernel
theorem dL_law_298 : decode cL_law 298 = .ok (.aload_n 2, 1) := by decide +kernel
theorem dL_law_299 : decode cL_law 299 = .ok (.aload_n 0, 1) := by decide +kernel
theorem dL_law_300 : decode cL_law 300 = .ok (.iload_n 3, 1) := by decide +kernel
theorem dL_law_301 : decode cL_law 301 = .ok (.iconst 1, 1) := by decide +kernel
theorem dL_law_302 : decode cL_law 302 = .ok (.iadd, 1) := by decide +kernel
theorem dL_law_303 : decode cL_law 303 = .ok (.iaload, 1) := by decide +kernel
theorem dL_law_304 : decode cL_law 304 = .ok (.aload_n 0, 1) := by decide +kernel
theorem dL_law_305 : decode cL_law 305 = .ok (.iload_n 3, 1) := by decide +kernel
theorem dL_law_306 : decode cL_law 306 = .ok (.iconst 2, 1) := by decide +kernel
theorem dL_law_307 : decode cL_law 307 = .ok (.iadd, 1) := by decide +kernel
theorem dL_law_308 : decode cL_law 308 = .ok (.iaload, 1) := by decide +kernel
theorem dL_law_309 : decode cL_law 309 = .ok (.aload_n 0, 1) := by decide +kernel
theorem dL_law_310 : decode cL_law 310 = .ok (.iload_n 3, 1) := by decide +kernel
theorem dL_law_311 : decode cL_law 311 = .ok (.iconst 3, 1) := by decide +kernel
theorem dL_law_312 : decode cL_law 312 = .ok (.iadd, 1) := by decide +kernel
theorem dL_law_313 : decode cL_law 313 = .ok (.iaload, 1) := by decide +kernel
theorem dL_law_314 : decode cL_law 314 = .ok (.invokevirtual 39, 3) := by decide +kernel
theorem dL_law_317 : decode cL_law 317 = .ok (.if_icmp .eq 104, 3) := by decide +kernel
theorem dL_law_320 : decode cL_law 320 = .ok (.iconst 0, 1) := by decide +kernel
theorem dL_law_321 : decode cL_law 321 = .ok (.ireturn, 1) := by decide +kernel
theorem dL_law_322 : decode cL_law 322 = .ok (.aload_n 1, 1) := by decide +kernel
theorem dL_law_323 : decode cL_law 323 = .ok (.aload_n 0, 1) := by decide +kernel
theorem dL_law_324 : decode cL_law 324 = .ok (.iload_n 3, 1) := by decide +kernel
theorem dL_law_325 : decode cL_law 325 = .ok (.iconst 1, 1) := by decide +kernel
theorem dL_law_326 : decode cL_law 326 = .ok (.iadd, 1) := by decide +kernel
theorem dL_law_327 : decode cL_law 327 = .ok (.iaload, 1) := by decide +kernel
theorem dL_law_328 : decode cL_law 328 = .ok (.aload_n 0, 1) := by decide +kernel
theorem dL_law_329 : decode cL_law 329 = .ok (.iload_n 3, 1) := by decide +kernel
theorem dL_law_330 : decode cL_law 330 = .ok (.iconst 2, 1) := by decide +kernel
theorem dL_law_331 : decode cL_law 331 = .ok (.iadd, 1) := by decide +kernel
theorem dL_law_332 : decode cL_law 332 = .ok (.iaload, 1) := by decide +kernel
theorem dL_law_333 : decode cL_law 333 = .ok (.invokevirtual 40, 3) := by decide +kernel
theorem dL_law_336 : decode cL_law 336 = .ok (.aload_n 2, 1) := by decide +kernel
theorem dL_law_337 : decode cL_law 337 = .ok (.aload_n 0, 1) := by decide +kernel
theorem dL_law_338 : decode cL_law 338 = .ok (.iload_n 3, 1) := by decide +kernel
theorem dL_law_339 : decode cL_law 339 = .ok (.iconst 1, 1) := by decide +kernel
theorem dL_law_340 : decode cL_law 340 = .ok (.iadd, 1) := by decide +kernel
theorem dL_law_341 : decode cL_law 341 = .ok (.iaload, 1) := by decide +kernel
theorem dL_law_342 : decode cL_law 342 = .ok (.aload_n 0, 1) := by decide +kernel
theorem dL_law_343 : decode cL_law 343 = .ok (.iload_n 3, 1) := by decide +kernel
theorem dL_law_344 : decode cL_law 344 = .ok (.iconst 2, 1) := by decide +kernel
theorem dL_law_345 : decode cL_law 345 = .ok (.iadd, 1) := by decide +kernel
theorem dL_law_346 : decode cL_law 346 = .ok (.iaload, 1) := by decide +kernel
theorem dL_law_347 : decode cL_law 347 = .ok (.invokevirtual 44, 3) := by decide +kernel
theorem dL_law_350 : decode cL_law 350 = .ok (.if_icmp .eq 71, 3) := by decide +kernel
theorem dL_law_353 : decode cL_law 353 = .ok (.iconst 0, 1) := by decide +kernel
theorem dL_law_354 : decode cL_law 354 = .ok (.ireturn, 1) := by decide +kernel
theorem dL_law_355 : decode cL_law 355 = .ok (.aload_n 1, 1) := by decide +kernel
theorem dL_law_356 : decode cL_law 356 = .ok (.aload_n 0, 1) := by decide +kernel
theorem dL_law_357 : decode cL_law 357 = .ok (.iload_n 3, 1) := by decide +kernel
theorem dL_law_358 : decode cL_law 358 = .ok (.iconst 1, 1) := by decide +kernel
theorem dL_law_359 : decode cL_law 359 = .ok (.iadd, 1) := by decide +kernel
theorem dL_law_360 : decode cL_law 360 = .ok (.iaload, 1) := by decide +kernel
theorem dL_law_361 : decode cL_law 361 = .ok (.aload_n 0, 1) := by decide +kernel
theorem dL_law_362 : decode cL_law 362 = .ok (.iload_n 3, 1) := by decide +kernel
theorem dL_law_363 : decode cL_law 363 = .ok (.iconst 2, 1) := by decide +kernel
theorem dL_law_364 : decode cL_law 364 = .ok (.iadd, 1) := by decide +kernel
theorem dL_law_365 : decode cL_law 365 = .ok (.iaload, 1) := by decide +kernel
theorem dL_law_366 : decode cL_law 366 = .ok (.invokevirtual 45, 3) := by decide +kernel
theorem dL_law_369 : decode cL_law 369 = .ok (.aload_n 2, 1) := by decide +kernel
theorem dL_law_370 : decode cL_law 370 = .ok (.aload_n 0, 1) := by decide +kernel
theorem dL_law_371 : decode cL_law 371 = .ok (.iload_n 3, 1) := by decide +kernel
theorem dL_law_372 : decode cL_law 372 = .ok (.iconst 1, 1) := by decide +kernel
theorem dL_law_373 : decode cL_law 373 = .ok (.iadd, 1) := by decide +kernel
theorem dL_law_374 : decode cL_law 374 = .ok (.iaload, 1) := by decide +kernel
theorem dL_law_375 : decode cL_law 375 = .ok (.aload_n 0, 1) := by decide +kernel
theorem dL_law_376 : decode cL_law 376 = .ok (.iload_n 3, 1) := by decide +kernel
theorem dL_law_377 : decode cL_law 377 = .ok (.iconst 2, 1) := by decide +kernel
theorem dL_law_378 : decode cL_law 378 = .ok (.iadd, 1) := by decide +kernel
theorem dL_law_379 : decode cL_law 379 = .ok (.iaload, 1) := by decide +kernel
theorem dL_law_380 : decode cL_law 380 = .ok (.invokevirtual 48, 3) := by decide +kernel
theorem dL_law_383 : decode cL_law 383 = .ok (.if_icmp .eq 38, 3) := by decide +kernel
theorem dL_law_386 : decode cL_law 386 = .ok (.iconst 0, 1) := by decide +kernel
theorem dL_law_387 : decode cL_law 387 = .ok (.ireturn, 1) := by decide +kernel
theorem dL_law_388 : decode cL_law 388 = .ok (.aload_n 1, 1) := by decide +kernel
theorem dL_law_389 : decode cL_law 389 = .ok (.aload_n 0, 1) := by decide +kernel
theorem dL_law_390 : decode cL_law 390 = .ok (.iload_n 3, 1) := by decide +kernel
theorem dL_law_391 : decode cL_law 391 = .ok (.iconst 1, 1) := by decide +kernel
theorem dL_law_392 : decode cL_law 392 = .ok (.iadd, 1) := by decide +kernel
theorem dL_law_393 : decode cL_law 393 = .ok (.iaload, 1) := by decide +kernel
theorem dL_law_394 : decode cL_law 394 = .ok (.aload_n 0, 1) := by decide +kernel
theorem dL_law_395 : decode cL_law 395 = .ok (.iload_n 3, 1) := by decide +kernel
theorem dL_law_396 : decode cL_law 396 = .ok (.iconst 2, 1) := by decide +kernel
theorem dL_law_397 : decode cL_law 397 = .ok (.iadd, 1) := by decide +kernel
theorem dL_law_398 : decode cL_law 398 = .ok (.iaload, 1) := by decide +kernel
theorem dL_law_399 : decode cL_law 399 = .ok (.invokevirtual 49, 3) := by decide +kernel
theorem dL_law_402 : decode cL_law 402 = .ok (.aload_n 2, 1) := by decide +kernel
theorem dL_law_403 : decode cL_law 403 = .ok (.aload_n 0, 1) := by decide +kernel
theorem dL_law_404 : decode cL_law 404 = .ok (.iload_n 3, 1) := by decide +kernel
theorem dL_law_405 : decode cL_law 405 = .ok (.iconst 1, 1) := by decide +kernel
theorem dL_law_406 : decode cL_law 406 = .ok (.iadd, 1) := by decide +kernel
theorem dL_law_407 : decode cL_law 407 = .ok (.iaload, 1) := by decide +kernel
theorem dL_law_408 : decode cL_law 408 = .ok (.aload_n 0, 1) := by decide +kernel
theorem dL_law_409 : decode cL_law 409 = .ok (.iload_n 3, 1) := by decide +kernel
theorem dL_law_410 : decode cL_law 410 = .ok (.iconst 2, 1) := by decide +kernel
theorem dL_law_411 : decode cL_law 411 = .ok (.iadd, 1) := by decide +kernel
theorem dL_law_412 : decode cL_law 412 = .ok (.iaload, 1) := by decide +kernel
theorem dL_law_413 : decode cL_law 413 = .ok (.invokevirtual 52, 3) := by decide +kernel
theorem dL_law_416 : decode cL_law 416 = .ok (.if_icmp .eq 5, 3) := by decide +kernel
theorem dL_law_419 : decode cL_law 419 = .ok (.iconst 0, 1) := by decide +kernel
theorem dL_law_420 : decode cL_law 420 = .ok (.ireturn, 1) := by decide +kernel
theorem dL_law_421 : decode cL_law 421 = .ok (.iinc 3 4, 3) := by decide +kernel
theorem dL_law_424 : decode cL_law 424 = .ok (.goto (-406), 3) := by decide +kernel
theorem dL_law_427 : decode cL_law 427 = .ok (.iconst 1, 1) := by decide +kernel
theorem dL_law_428 : decode cL_law 428 = .ok (.ireturn, 1) := by decide +kernel
end
section
set_option maxRecDepth 100000
/-! THE JUDGEMENT G: at pc, with locals lv and stack st, in the world ws, the machine comes to the end that the context Γ names -/
abbrev vwCl : List vw_C := [(RX0, TX0, 9), (RX1, TX1, 6)]
abbrev gS : Type := Nat → Nat → Int32
/-- the locals by place; none: nothing is known of it -/
def lvl (ls : Array Slot) (nL : Nat) (lv : List (Option Value)) : Prop := ls.size = nL ∧ lv_wf ls ∧ lv.length ≤ nL ∧ ∀ (i : Nat) (v : Value), lv[i]? = some (some v) → v.category = 1 ∧ ls[i]? = some (.val v)
theorem lvl_at {ls : Array Slot} {nL : Nat} {lv : List (Option Value)} (h : lvl ls nL lv) {i : Nat} {v : Value} (hi : lv[i]? = some (some v)) : ls[i]? = some (.val v) := (h.2.2.2 i v hi).2
def lvp (lv : List (Option Value)) : List (Nat × Value) := (List.range lv.length).filterMap (fun i => (lv[i]?.join).map (fun v => (i, v)))
theorem lvp_mem {lv : List (Option Value)} {i : Nat} {v : Value} (h : lv[i]? = some (some v)) : (i, v) ∈ lvp lv := by
  have hi : i < lv.length := (List.getElem?_eq_some_iff.mp h).1
  exact List.mem_filterMap.mpr ⟨i, List.mem_range.mpr hi, by rw [h]; rfl⟩
theorem lvp_of {lv : List (Option Value)} {q : Nat × Value} (h : q ∈ lvp lv) : lv[q.1]? = some (some q.2) := by
  obtain ⟨i, -, hi⟩ := List.mem_filterMap.mp h
  cases hj : lv[i]? with
  | none => rw [hj] at hi; cases hi
  | some o =>
    cases o with
    | none => rw [hj] at hi; cases hi
    | some v =>
      rw [hj] at hi
      have e : (i, v) = q := Option.some.inj hi
      rw [← e]
      exact hj
theorem lvl_has {ls : Array Slot} {nL : Nat} {lv : List (Option Value)} (h : lvl ls nL lv) : lv_has ls nL (lvp lv) := ⟨h.1, h.2.1, fun _ hq => lvl_at h (lvp_of hq)⟩
theorem lvl_put {ls ls' : Array Slot} {nL : Nat} {lv : List (Option Value)} {i : Nat} {v : Value} (h : lvl ls nL lv) (hv : v.category = 1) (h' : lv_has ls' nL ((i, v) :: (lvp lv).filter (fun q => !(q.1 == i) && !(q.1 + 1 == i && q.2.category == 2)))) : lvl ls' nL (lv.set i (some v)) := by
  refine ⟨h'.1, h'.2.1, by rw [List.length_set]; exact h.2.2.1, fun j w hj => ?_⟩
  rw [List.getElem?_set] at hj
  by_cases hij : i = j
  · rw [if_pos hij] at hj
    by_cases hl : i < lv.length
    · rw [if_pos hl] at hj
      have e : v = w := by simpa using hj
      subst e
      subst hij
      exact ⟨hv, h'.2.2 (i, v) List.mem_cons_self⟩
    · rw [if_neg hl] at hj
      cases hj
  · rw [if_neg hij] at hj
    obtain ⟨c1, -⟩ := h.2.2.2 j w hj
    refine ⟨c1, h'.2.2 (j, w) (List.mem_cons_of_mem _ (List.mem_filter.mpr ⟨lvp_mem hj, ?_⟩))⟩
    have : ¬ j = i := fun e => hij e.symm
    simp [this, c1]
theorem lvl_args : ∀ (av : List Value) (n i : Nat) (v : Value), (∀ w ∈ av, w.category = 1) → av[i]? = some v → (n + i, v) ∈ lv_args n av := by
  intro av
  induction av with
  | nil => intro n i v _ h; cases h
  | cons a t ih =>
    intro n i v hc h
    have ha : a.category = 1 := hc a List.mem_cons_self
    show (n + i, v) ∈ (n, a) :: lv_args (if a.category = 2 then n + 2 else n + 1) t
    rw [if_neg (by omega)]
    cases i with
    | zero =>
      have e : a = v := by simpa using h
      rw [e]
      exact List.mem_cons_self
    | succ i =>
      have h2 := ih (n + 1) i v (fun w hw => hc w (List.mem_cons_of_mem _ hw)) (by simpa using h)
      rw [show n + (i + 1) = n + 1 + i by omega]
      exact List.mem_cons_of_mem _ h2
theorem lvl_entry {ls : Array Slot} {L : Nat} {av : List Value} (h : lv_has ls L (lv_args 0 av)) (hc : ∀ w ∈ av, w.category = 1) (hL : av.length ≤ L) : lvl ls L (av.map some ++ List.replicate (L - av.length) none) := by
  refine ⟨h.1, h.2.1, by simp; omega, fun i v hi => ?_⟩
  by_cases hl : i < av.length
  · rw [List.getElem?_append_left (by simpa using hl), List.getElem?_map] at hi
    have hv : av[i]? = some v := by
      cases ha : av[i]? with
      | none => rw [ha] at hi; cases hi
      | some w => rw [ha] at hi; simpa using hi
    refine ⟨hc v (List.mem_of_getElem? hv), ?_⟩
    have := h.2.2 _ (lvl_args av 0 i v hc hv)
    simpa using this
  · rw [List.getElem?_append_right (by simpa using Nat.le_of_not_lt hl), List.getElem?_replicate] at hi
    split at hi
    · cases hi
    · cases hi
abbrev gC : Type := Program → Env → State → MethodId → Array Value → List Frame → Method → Code → (State → Prop) → (Nat → Prop) → Prop
/-- what stands fast along a walk -/
def gX (cc : ByteArray) (nL : Nat) (own : String) (D : va_G) (tys : List (ClassId × FieldType)) (Γ : gC) (p : Program) (e : Env) (s : State) (m : MethodId) (args : Array Value) (below : List Frame) (meth : Method) (c : Code) (Q : State → Prop) (A : Nat → Prop) : Prop :=
  p.tables.exec = Jvm.exec ∧ c.code = cc ∧ c.maxLocals = nL ∧ s.vm.findClass own = some m.cls ∧ (∀ w ∈ lw_all, w.before args s = true) ∧ meth.locks = false ∧ va_K D vwCl tys s ∧ (∀ q : Nat, s.heap.size ≤ q → A q) ∧ Γ p e s m args below meth c Q A
def G (l : Launch) (R : Room) (kc ks : Nat) (cc : ByteArray) (nL : Nat) (own : String) (D : va_G) (tys : List (ClassId × FieldType)) (Γ : gC) (ws : va_W) (pc : Nat) (lv : List (Option Value)) (st : List Value) : Prop :=
  ∀ (p : Program) (e : Env) (s : State) (m : MethodId) (args : Array Value) (below : List Frame) (meth : Method) (c : Code) (Q : State → Prop) (A : Nat → Prop) (H : Heap) (locs : List Loc) (ls : Array Slot), gX cc nL own D tys Γ p e s m args below meth c Q A → va_P D vwCl ws H → va_D A ws → va_S A s.heap H locs → lvl ls nL lv → W p l e R s m args below meth c H locs kc ks Q (F0 m pc ls st)
section GR
variable {l : Launch} {R : Room} {kc ks : Nat} {cc : ByteArray} {nL : Nat} {own : String} {D : va_G} {tys : List (ClassId × FieldType)} {Γ : gC} {ws : va_W} {pc : Nat} {lv t : List (Option Value)} {st : List Value} {v0 v1 v2 v3 v4 v5 v6 v7 v8 v9 v10 : Option Value}
theorem g_pure {pc' : Nat} {st' : List Value} (h : ∀ (p : Program) (e : Env) (s : State) (m : MethodId) (args : Array Value) (below : List Frame) (meth : Method) (c : Code) (Q : State → Prop) (H : Heap) (locs : List Loc) (ls : Array Slot), p.tables.exec = Jvm.exec → c.code = cc → W p l e R s m args below meth c H locs kc ks Q (F0 m pc' ls st') → W p l e R s m args below meth c H locs kc ks Q (F0 m pc ls st)) (kk : G l R kc ks cc nL own D tys Γ ws pc' lv st') : G l R kc ks cc nL own D tys Γ ws pc lv st :=
  fun p e s m args below meth c Q A H locs ls X hP hD hS hl => h p e s m args below meth c Q H locs ls X.1 X.2.1 (kk p e s m args below meth c Q A H locs ls X hP hD hS hl)
/-- the top of the stack by another name -/
theorem g_top {x y : Int32} (h : x = y) (kk : G l R kc ks cc nL own D tys Γ ws pc lv (.int y :: st)) : G l R kc ks cc nL own D tys Γ ws pc lv (.int x :: st) := h ▸ kk
theorem g_top2 {x y : Int32} {a : Value} (h : x = y) (kk : G l R kc ks cc nL own D tys Γ ws pc lv (a :: .int y :: st)) : G l R kc ks cc nL own D tys Γ ws pc lv (a :: .int x :: st) := h ▸ kk
theorem g_lv {lv' : List (Option Value)} (h : lv = lv') (kk : G l R kc ks cc nL own D tys Γ ws pc lv' st) : G l R kc ks cc nL own D tys Γ ws pc lv st := h ▸ kk
theorem g_ws {ws' : va_W} (h : ws = ws') (kk : G l R kc ks cc nL own D tys Γ ws' pc lv st) : G l R kc ks cc nL own D tys Γ ws pc lv st := h ▸ kk

theorem g_iconst {z : Int} {v : Int32} (hd : decode cc pc = .ok (.iconst z, 1)) (hv : Int32.ofInt z = v) (kk : G l R kc ks cc nL own D tys Γ ws (pc + 1) lv (.int v :: st)) : G l R kc ks cc nL own D tys Γ ws pc lv (st) := g_pure (fun _ _ _ _ _ _ _ _ _ _ _ _ hx hb k => lv_iconst hx hb hd hv k) kk
theorem g_bipush {z : Int} {v : Int32} (hd : decode cc pc = .ok (.bipush z, 2)) (hv : (Int8.ofInt z).toInt32 = v) (kk : G l R kc ks cc nL own D tys Γ ws (pc + 2) lv (.int v :: st)) : G l R kc ks cc nL own D tys Γ ws pc lv (st) := g_pure (fun _ _ _ _ _ _ _ _ _ _ _ _ hx hb k => lv_bipush hx hb hd hv k) kk
theorem g_iadd {x y : Int32} (hd : decode cc pc = .ok (.iadd, 1))  (kk : G l R kc ks cc nL own D tys Γ ws (pc + 1) lv (.int (x + y) :: st)) : G l R kc ks cc nL own D tys Γ ws pc lv (.int y :: .int x :: st) := g_pure (fun _ _ _ _ _ _ _ _ _ _ _ _ hx hb k => lv_iadd hx hb hd  k) kk
theorem g_isub {x y : Int32} (hd : decode cc pc = .ok (.isub, 1))  (kk : G l R kc ks cc nL own D tys Γ ws (pc + 1) lv (.int (x - y) :: st)) : G l R kc ks cc nL own D tys Γ ws pc lv (.int y :: .int x :: st) := g_pure (fun _ _ _ _ _ _ _ _ _ _ _ _ hx hb k => lv_isub hx hb hd  k) kk
theorem g_imul {x y : Int32} (hd : decode cc pc = .ok (.imul, 1))  (kk : G l R kc ks cc nL own D tys Γ ws (pc + 1) lv (.int (x * y) :: st)) : G l R kc ks cc nL own D tys Γ ws pc lv (.int y :: .int x :: st) := g_pure (fun _ _ _ _ _ _ _ _ _ _ _ _ hx hb k => lv_imul hx hb hd  k) kk
theorem g_iand {x y : Int32} (hd : decode cc pc = .ok (.iand, 1))  (kk : G l R kc ks cc nL own D tys Γ ws (pc + 1) lv (.int (x &&& y) :: st)) : G l R kc ks cc nL own D tys Γ ws pc lv (.int y :: .int x :: st) := g_pure (fun _ _ _ _ _ _ _ _ _ _ _ _ hx hb k => lv_iand hx hb hd  k) kk
theorem g_ior {x y : Int32} (hd : decode cc pc = .ok (.ior, 1))  (kk : G l R kc ks cc nL own D tys Γ ws (pc + 1) lv (.int (x ||| y) :: st)) : G l R kc ks cc nL own D tys Γ ws pc lv (.int y :: .int x :: st) := g_pure (fun _ _ _ _ _ _ _ _ _ _ _ _ hx hb k => lv_ior hx hb hd  k) kk
theorem g_ixor {x y : Int32} (hd : decode cc pc = .ok (.ixor, 1))  (kk : G l R kc ks cc nL own D tys Γ ws (pc + 1) lv (.int (x ^^^ y) :: st)) : G l R kc ks cc nL own D tys Γ ws pc lv (.int y :: .int x :: st) := g_pure (fun _ _ _ _ _ _ _ _ _ _ _ _ hx hb k => lv_ixor hx hb hd  k) kk
theorem g_ishl {x y : Int32} (hd : decode cc pc = .ok (.ishl, 1))  (kk : G l R kc ks cc nL own D tys Γ ws (pc + 1) lv (.int (x <<< (y &&& 31)) :: st)) : G l R kc ks cc nL own D tys Γ ws pc lv (.int y :: .int x :: st) := g_pure (fun _ _ _ _ _ _ _ _ _ _ _ _ hx hb k => lv_ishl hx hb hd  k) kk
theorem g_ishr {x y : Int32} (hd : decode cc pc = .ok (.ishr, 1))  (kk : G l R kc ks cc nL own D tys Γ ws (pc + 1) lv (.int (x >>> (y &&& 31)) :: st)) : G l R kc ks cc nL own D tys Γ ws pc lv (.int y :: .int x :: st) := g_pure (fun _ _ _ _ _ _ _ _ _ _ _ _ hx hb k => lv_ishr hx hb hd  k) kk
theorem g_ineg {x : Int32} (hd : decode cc pc = .ok (.ineg, 1))  (kk : G l R kc ks cc nL own D tys Γ ws (pc + 1) lv (.int (-x) :: st)) : G l R kc ks cc nL own D tys Γ ws pc lv (.int x :: st) := g_pure (fun _ _ _ _ _ _ _ _ _ _ _ _ hx hb k => lv_ineg hx hb hd  k) kk
theorem g_idiv {x y : Int32} (hd : decode cc pc = .ok (.idiv, 1)) (hne : ¬ y = 0) (kk : G l R kc ks cc nL own D tys Γ ws (pc + 1) lv (.int (x / y) :: st)) : G l R kc ks cc nL own D tys Γ ws pc lv (.int y :: .int x :: st) := g_pure (fun _ _ _ _ _ _ _ _ _ _ _ _ hx hb k => lv_idiv hx hb hd hne k) kk
theorem g_irem {x y : Int32} (hd : decode cc pc = .ok (.irem, 1)) (hne : ¬ y = 0) (kk : G l R kc ks cc nL own D tys Γ ws (pc + 1) lv (.int (x - x / y * y) :: st)) : G l R kc ks cc nL own D tys Γ ws pc lv (.int y :: .int x :: st) := g_pure (fun _ _ _ _ _ _ _ _ _ _ _ _ hx hb k => lv_irem hx hb hd hne k) kk
theorem g_i2b {x v : Int32} (hd : decode cc pc = .ok (.i2b, 1)) (hv : x.toInt8.toInt32 = v) (kk : G l R kc ks cc nL own D tys Γ ws (pc + 1) lv (.int v :: st)) : G l R kc ks cc nL own D tys Γ ws pc lv (.int x :: st) := g_pure (fun _ _ _ _ _ _ _ _ _ _ _ _ hx hb k => lv_i2b hx hb hd hv k) kk
theorem g_dup {va : Value} (hd : decode cc pc = .ok (.dup, 1)) (hva : va.category = 1) (kk : G l R kc ks cc nL own D tys Γ ws (pc + 1) lv (va :: va :: st)) : G l R kc ks cc nL own D tys Γ ws pc lv (va :: st) := g_pure (fun _ _ _ _ _ _ _ _ _ _ _ _ hx hb k => lv_dup hx hb hd hva k) kk
theorem g_dup2 {va vb : Value} (hd : decode cc pc = .ok (.dup2, 1)) (hva : va.category = 1) (hvb : vb.category = 1) (kk : G l R kc ks cc nL own D tys Γ ws (pc + 1) lv (va :: vb :: va :: vb :: st)) : G l R kc ks cc nL own D tys Γ ws pc lv (va :: vb :: st) := g_pure (fun _ _ _ _ _ _ _ _ _ _ _ _ hx hb k => lv_dup2_11 hx hb hd hva hvb k) kk
theorem g_sipush {z : Int} {v : Int32} (hd : decode cc pc = .ok (.sipush z, 3)) (hv : (Int16.ofInt z).toInt32 = v) (kk : G l R kc ks cc nL own D tys Γ ws (pc + 3) lv (.int v :: st)) : G l R kc ks cc nL own D tys Γ ws pc lv (st) := g_pure (fun _ _ _ _ _ _ _ _ _ _ _ _ hx hb k => lv_sipush hx hb hd hv k) kk
theorem g_goto {off : Int} {tgt : Nat} (hd : decode cc pc = .ok (.goto off, 3)) (ht : (pc : Int) + off = (tgt : Int)) (kk : G l R kc ks cc nL own D tys Γ ws tgt lv st) : G l R kc ks cc nL own D tys Γ ws pc lv st := g_pure (fun _ _ _ _ _ _ _ _ _ _ _ _ hx hb k => lv_goto hx hb hd ht k) kk
theorem g_ldc {index : Nat} {v : Int32} (hw : Jvm.Cond.constant own index v ∈ lw_all) (hd : decode cc pc = .ok (.ldc index, 2)) (kk : G l R kc ks cc nL own D tys Γ ws (pc + 2) lv (.int v :: st)) : G l R kc ks cc nL own D tys Γ ws pc lv st := fun p e s m args below meth c Q A H locs ls X hP hD hS hl => lv_ldc X.1 X.2.1 X.2.2.2.1 (X.2.2.2.2.1 _ hw) hd (kk p e s m args below meth c Q A H locs ls X hP hD hS hl)
theorem g_iadd_n {a b : Nat} (hd : decode cc pc = .ok (.iadd, 1)) (kk : G l R kc ks cc nL own D tys Γ ws (pc + 1) lv (.int (nI (a + b)) :: st)) : G l R kc ks cc nL own D tys Γ ws pc lv (.int (nI b) :: .int (nI a) :: st) := g_iadd hd (g_top (nI_add a b) kk)
theorem g_imul_n {a b : Nat} (hd : decode cc pc = .ok (.imul, 1)) (kk : G l R kc ks cc nL own D tys Γ ws (pc + 1) lv (.int (nI (a * b)) :: st)) : G l R kc ks cc nL own D tys Γ ws pc lv (.int (nI b) :: .int (nI a) :: st) := g_imul hd (g_top (pk_mul a b) kk)
theorem g_isub_n {a b : Nat} (hd : decode cc pc = .ok (.isub, 1)) (h : b ≤ a) (kk : G l R kc ks cc nL own D tys Γ ws (pc + 1) lv (.int (nI (a - b)) :: st)) : G l R kc ks cc nL own D tys Γ ws pc lv (.int (nI b) :: .int (nI a) :: st) := g_isub hd (g_top (pk_sub h) kk)
theorem g_if_eq {x : Int32} {off : Int} {tgt : Nat} (hd : decode cc pc = .ok (.ifCond .eq off, 3)) (ht : (pc : Int) + off = (tgt : Int)) (kt : x = 0 → G l R kc ks cc nL own D tys Γ ws tgt lv st) (kf : ¬ x = 0 → G l R kc ks cc nL own D tys Γ ws (pc + 3) lv st) : G l R kc ks cc nL own D tys Γ ws pc lv (.int x :: st) := fun p e s m args below meth c Q A H locs ls X hP hD hS hl => lv_if_eq X.1 X.2.1 hd ht (fun h => kt h p e s m args below meth c Q A H locs ls X hP hD hS hl) (fun h => kf h p e s m args below meth c Q A H locs ls X hP hD hS hl)
theorem g_icmp_eq {x y : Int32} {off : Int} {tgt : Nat} (hd : decode cc pc = .ok (.if_icmp .eq off, 3)) (ht : (pc : Int) + off = (tgt : Int)) (kt : x = y → G l R kc ks cc nL own D tys Γ ws tgt lv st) (kf : ¬ x = y → G l R kc ks cc nL own D tys Γ ws (pc + 3) lv st) : G l R kc ks cc nL own D tys Γ ws pc lv (.int y :: .int x :: st) := fun p e s m args below meth c Q A H locs ls X hP hD hS hl => lv_icmp_eq X.1 X.2.1 hd ht (fun h => kt h p e s m args below meth c Q A H locs ls X hP hD hS hl) (fun h => kf h p e s m args below meth c Q A H locs ls X hP hD hS hl)
theorem g_if_ne {x : Int32} {off : Int} {tgt : Nat} (hd : decode cc pc = .ok (.ifCond .ne off, 3)) (ht : (pc : Int) + off = (tgt : Int)) (kt : ¬ x = 0 → G l R kc ks cc nL own D tys Γ ws tgt lv st) (kf : x = 0 → G l R kc ks cc nL own D tys Γ ws (pc + 3) lv st) : G l R kc ks cc nL own D tys Γ ws pc lv (.int x :: st) := fun p e s m args below meth c Q A H locs ls X hP hD hS hl => lv_if_ne X.1 X.2.1 hd ht (fun h => kt h p e s m args below meth c Q A H locs ls X hP hD hS hl) (fun h => kf h p e s m args below meth c Q A H locs ls X hP hD hS hl)
theorem g_icmp_ne {x y : Int32} {off : Int} {tgt : Nat} (hd : decode cc pc = .ok (.if_icmp .ne off, 3)) (ht : (pc : Int) + off = (tgt : Int)) (kt : ¬ x = y → G l R kc ks cc nL own D tys Γ ws tgt lv st) (kf : x = y → G l R kc ks cc nL own D tys Γ ws (pc + 3) lv st) : G l R kc ks cc nL own D tys Γ ws pc lv (.int y :: .int x :: st) := fun p e s m args below meth c Q A H locs ls X hP hD hS hl => lv_icmp_ne X.1 X.2.1 hd ht (fun h => kt h p e s m args below meth c Q A H locs ls X hP hD hS hl) (fun h => kf h p e s m args below meth c Q A H locs ls X hP hD hS hl)
theorem g_if_lt {x : Int32} {off : Int} {tgt : Nat} (hd : decode cc pc = .ok (.ifCond .lt off, 3)) (ht : (pc : Int) + off = (tgt : Int)) (kt : x < 0 → G l R kc ks cc nL own D tys Γ ws tgt lv st) (kf : ¬ x < 0 → G l R kc ks cc nL own D tys Γ ws (pc + 3) lv st) : G l R kc ks cc nL own D tys Γ ws pc lv (.int x :: st) := fun p e s m args below meth c Q A H locs ls X hP hD hS hl => lv_if_lt X.1 X.2.1 hd ht (fun h => kt h p e s m args below meth c Q A H locs ls X hP hD hS hl) (fun h => kf h p e s m args below meth c Q A H locs ls X hP hD hS hl)
theorem g_icmp_lt {x y : Int32} {off : Int} {tgt : Nat} (hd : decode cc pc = .ok (.if_icmp .lt off, 3)) (ht : (pc : Int) + off = (tgt : Int)) (kt : x < y → G l R kc ks cc nL own D tys Γ ws tgt lv st) (kf : ¬ x < y → G l R kc ks cc nL own D tys Γ ws (pc + 3) lv st) : G l R kc ks cc nL own D tys Γ ws pc lv (.int y :: .int x :: st) := fun p e s m args below meth c Q A H locs ls X hP hD hS hl => lv_icmp_lt X.1 X.2.1 hd ht (fun h => kt h p e s m args below meth c Q A H locs ls X hP hD hS hl) (fun h => kf h p e s m args below meth c Q A H locs ls X hP hD hS hl)
theorem g_if_ge {x : Int32} {off : Int} {tgt : Nat} (hd : decode cc pc = .ok (.ifCond .ge off, 3)) (ht : (pc : Int) + off = (tgt : Int)) (kt : 0 ≤ x → G l R kc ks cc nL own D tys Γ ws tgt lv st) (kf : ¬ 0 ≤ x → G l R kc ks cc nL own D tys Γ ws (pc + 3) lv st) : G l R kc ks cc nL own D tys Γ ws pc lv (.int x :: st) := fun p e s m args below meth c Q A H locs ls X hP hD hS hl => lv_if_ge X.1 X.2.1 hd ht (fun h => kt h p e s m args below meth c Q A H locs ls X hP hD hS hl) (fun h => kf h p e s m args below meth c Q A H locs ls X hP hD hS hl)
theorem g_icmp_ge {x y : Int32} {off : Int} {tgt : Nat} (hd : decode cc pc = .ok (.if_icmp .ge off, 3)) (ht : (pc : Int) + off = (tgt : Int)) (kt : y ≤ x → G l R kc ks cc nL own D tys Γ ws tgt lv st) (kf : ¬ y ≤ x → G l R kc ks cc nL own D tys Γ ws (pc + 3) lv st) : G l R kc ks cc nL own D tys Γ ws pc lv (.int y :: .int x :: st) := fun p e s m args below meth c Q A H locs ls X hP hD hS hl => lv_icmp_ge X.1 X.2.1 hd ht (fun h => kt h p e s m args below meth c Q A H locs ls X hP hD hS hl) (fun h => kf h p e s m args below meth c Q A H locs ls X hP hD hS hl)
theorem g_if_gt {x : Int32} {off : Int} {tgt : Nat} (hd : decode cc pc = .ok (.ifCond .gt off, 3)) (ht : (pc : Int) + off = (tgt : Int)) (kt : 0 < x → G l R kc ks cc nL own D tys Γ ws tgt lv st) (kf : ¬ 0 < x → G l R kc ks cc nL own D tys Γ ws (pc + 3) lv st) : G l R kc ks cc nL own D tys Γ ws pc lv (.int x :: st) := fun p e s m args below meth c Q A H locs ls X hP hD hS hl => lv_if_gt X.1 X.2.1 hd ht (fun h => kt h p e s m args below meth c Q A H locs ls X hP hD hS hl) (fun h => kf h p e s m args below meth c Q A H locs ls X hP hD hS hl)
theorem g_icmp_gt {x y : Int32} {off : Int} {tgt : Nat} (hd : decode cc pc = .ok (.if_icmp .gt off, 3)) (ht : (pc : Int) + off = (tgt : Int)) (kt : y < x → G l R kc ks cc nL own D tys Γ ws tgt lv st) (kf : ¬ y < x → G l R kc ks cc nL own D tys Γ ws (pc + 3) lv st) : G l R kc ks cc nL own D tys Γ ws pc lv (.int y :: .int x :: st) := fun p e s m args below meth c Q A H locs ls X hP hD hS hl => lv_icmp_gt X.1 X.2.1 hd ht (fun h => kt h p e s m args below meth c Q A H locs ls X hP hD hS hl) (fun h => kf h p e s m args below meth c Q A H locs ls X hP hD hS hl)
theorem g_if_le {x : Int32} {off : Int} {tgt : Nat} (hd : decode cc pc = .ok (.ifCond .le off, 3)) (ht : (pc : Int) + off = (tgt : Int)) (kt : x ≤ 0 → G l R kc ks cc nL own D tys Γ ws tgt lv st) (kf : ¬ x ≤ 0 → G l R kc ks cc nL own D tys Γ ws (pc + 3) lv st) : G l R kc ks cc nL own D tys Γ ws pc lv (.int x :: st) := fun p e s m args below meth c Q A H locs ls X hP hD hS hl => lv_if_le X.1 X.2.1 hd ht (fun h => kt h p e s m args below meth c Q A H locs ls X hP hD hS hl) (fun h => kf h p e s m args below meth c Q A H locs ls X hP hD hS hl)
theorem g_icmp_le {x y : Int32} {off : Int} {tgt : Nat} (hd : decode cc pc = .ok (.if_icmp .le off, 3)) (ht : (pc : Int) + off = (tgt : Int)) (kt : x ≤ y → G l R kc ks cc nL own D tys Γ ws tgt lv st) (kf : ¬ x ≤ y → G l R kc ks cc nL own D tys Γ ws (pc + 3) lv st) : G l R kc ks cc nL own D tys Γ ws pc lv (.int y :: .int x :: st) := fun p e s m args below meth c Q A H locs ls X hP hD hS hl => lv_icmp_le X.1 X.2.1 hd ht (fun h => kt h p e s m args below meth c Q A H locs ls X hP hD hS hl) (fun h => kf h p e s m args below meth c Q A H locs ls X hP hD hS hl)
theorem g_icmp_eq_n {a b : Nat} {off : Int} {tgt : Nat} (hd : decode cc pc = .ok (.if_icmp .eq off, 3)) (ht : (pc : Int) + off = (tgt : Int)) (ha : a < 2 ^ 31) (hb : b < 2 ^ 31) (kt : a = b → G l R kc ks cc nL own D tys Γ ws tgt lv st) (kf : ¬ a = b → G l R kc ks cc nL own D tys Γ ws (pc + 3) lv st) : G l R kc ks cc nL own D tys Γ ws pc lv (.int (nI b) :: .int (nI a) :: st) := g_icmp_eq hd ht (fun h => kt ((nI_eq ha hb).mp h)) (fun h => kf (fun q => h ((nI_eq ha hb).mpr q)))
theorem g_icmp_ne_n {a b : Nat} {off : Int} {tgt : Nat} (hd : decode cc pc = .ok (.if_icmp .ne off, 3)) (ht : (pc : Int) + off = (tgt : Int)) (ha : a < 2 ^ 31) (hb : b < 2 ^ 31) (kt : ¬ a = b → G l R kc ks cc nL own D tys Γ ws tgt lv st) (kf : a = b → G l R kc ks cc nL own D tys Γ ws (pc + 3) lv st) : G l R kc ks cc nL own D tys Γ ws pc lv (.int (nI b) :: .int (nI a) :: st) := g_icmp_ne hd ht (fun h => kt (fun q => h ((nI_eq ha hb).mpr q))) (fun h => kf ((nI_eq ha hb).mp h))
theorem g_icmp_lt_n {a b : Nat} {off : Int} {tgt : Nat} (hd : decode cc pc = .ok (.if_icmp .lt off, 3)) (ht : (pc : Int) + off = (tgt : Int)) (ha : a < 2 ^ 31) (hb : b < 2 ^ 31) (kt : a < b → G l R kc ks cc nL own D tys Γ ws tgt lv st) (kf : b ≤ a → G l R kc ks cc nL own D tys Γ ws (pc + 3) lv st) : G l R kc ks cc nL own D tys Γ ws pc lv (.int (nI b) :: .int (nI a) :: st) := g_icmp_lt hd ht (fun h => kt ((nI_ltI ha hb).mp h)) (fun h => kf (Nat.le_of_not_lt (fun q => h ((nI_ltI ha hb).mpr q))))
theorem g_icmp_ge_n {a b : Nat} {off : Int} {tgt : Nat} (hd : decode cc pc = .ok (.if_icmp .ge off, 3)) (ht : (pc : Int) + off = (tgt : Int)) (ha : a < 2 ^ 31) (hb : b < 2 ^ 31) (kt : b ≤ a → G l R kc ks cc nL own D tys Γ ws tgt lv st) (kf : a < b → G l R kc ks cc nL own D tys Γ ws (pc + 3) lv st) : G l R kc ks cc nL own D tys Γ ws pc lv (.int (nI b) :: .int (nI a) :: st) := g_icmp_ge hd ht (fun h => kt ((nI_leI hb ha).mp h)) (fun h => kf (Nat.lt_of_not_le (fun q => h ((nI_leI hb ha).mpr q))))
theorem g_icmp_gt_n {a b : Nat} {off : Int} {tgt : Nat} (hd : decode cc pc = .ok (.if_icmp .gt off, 3)) (ht : (pc : Int) + off = (tgt : Int)) (ha : a < 2 ^ 31) (hb : b < 2 ^ 31) (kt : b < a → G l R kc ks cc nL own D tys Γ ws tgt lv st) (kf : a ≤ b → G l R kc ks cc nL own D tys Γ ws (pc + 3) lv st) : G l R kc ks cc nL own D tys Γ ws pc lv (.int (nI b) :: .int (nI a) :: st) := g_icmp_gt hd ht (fun h => kt ((nI_ltI hb ha).mp h)) (fun h => kf (Nat.le_of_not_lt (fun q => h ((nI_ltI hb ha).mpr q))))
theorem g_icmp_le_n {a b : Nat} {off : Int} {tgt : Nat} (hd : decode cc pc = .ok (.if_icmp .le off, 3)) (ht : (pc : Int) + off = (tgt : Int)) (ha : a < 2 ^ 31) (hb : b < 2 ^ 31) (kt : a ≤ b → G l R kc ks cc nL own D tys Γ ws tgt lv st) (kf : b < a → G l R kc ks cc nL own D tys Γ ws (pc + 3) lv st) : G l R kc ks cc nL own D tys Γ ws pc lv (.int (nI b) :: .int (nI a) :: st) := g_icmp_le hd ht (fun h => kt ((nI_leI ha hb).mp h)) (fun h => kf (Nat.lt_of_not_le (fun q => h ((nI_leI ha hb).mpr q))))
def bI (b : Bool) : Int32 := cond b 1 0
theorem bI_0 (b : Bool) : bI b = 0 ↔ b = false := by cases b <;> decide
theorem bI_n (b : Bool) : ¬ bI b = 0 ↔ b = true := by cases b <;> decide
theorem g_if_eq_b {b : Bool} {off : Int} {tgt : Nat} (hd : decode cc pc = .ok (.ifCond .eq off, 3)) (ht : (pc : Int) + off = (tgt : Int)) (kt : b = false → G l R kc ks cc nL own D tys Γ ws tgt lv st) (kf : b = true → G l R kc ks cc nL own D tys Γ ws (pc + 3) lv st) : G l R kc ks cc nL own D tys Γ ws pc lv (.int (bI b) :: st) := g_if_eq hd ht (fun h => kt ((bI_0 b).mp h)) (fun h => kf ((bI_n b).mp h))
theorem g_if_ne_b {b : Bool} {off : Int} {tgt : Nat} (hd : decode cc pc = .ok (.ifCond .ne off, 3)) (ht : (pc : Int) + off = (tgt : Int)) (kt : b = true → G l R kc ks cc nL own D tys Γ ws tgt lv st) (kf : b = false → G l R kc ks cc nL own D tys Γ ws (pc + 3) lv st) : G l R kc ks cc nL own D tys Γ ws pc lv (.int (bI b) :: st) := g_if_ne hd ht (fun h => kt ((bI_n b).mp h)) (fun h => kf ((bI_0 b).mp h))
theorem g_il0 {x : Int32} (hd : decode cc pc = .ok (.iload_n 0, 1)) (kk : G l R kc ks cc nL own D tys Γ ws (pc + 1) (some (.int x) :: t) (.int x :: st)) : G l R kc ks cc nL own D tys Γ ws pc (some (.int x) :: t) st := fun p e s m args below meth c Q A H locs ls X hP hD hS hl => lv_iload_n X.1 X.2.1 hd rfl (lvl_at hl (i := 0) rfl) (kk p e s m args below meth c Q A H locs ls X hP hD hS hl)
theorem g_is0 {x : Int32} {w : Option Value} (hd : decode cc pc = .ok (.istore_n 0, 1)) (kk : G l R kc ks cc nL own D tys Γ ws (pc + 1) (some (.int x) :: t) st) : G l R kc ks cc nL own D tys Γ ws pc (w :: t) (.int x :: st) := fun p e s m args below meth c Q A H locs ls X hP hD hS hl => lv_istore_n X.1 X.2.1 hd rfl (lvl_has hl) (Nat.lt_of_lt_of_le (by simp only [List.length_cons]; omega) hl.2.2.1) rfl (fun ls' h' => kk p e s m args below meth c Q A H locs ls' X hP hD hS (lvl_put hl rfl h'))
theorem g_ic0 {x v : Int32} {z : Int} (hd : decode cc pc = .ok (.iinc 0 z, 3)) (hv : x + Int32.ofInt z = v) (kk : G l R kc ks cc nL own D tys Γ ws (pc + 3) (some (.int v) :: t) st) : G l R kc ks cc nL own D tys Γ ws pc (some (.int x) :: t) st := by
  intro p e s m args below meth c Q A H locs ls X hP hD hS hl
  obtain ⟨q, hq⟩ := List.getElem?_of_mem (lvp_mem (lv := some (.int x) :: t) (i := 0) (v := .int x) rfl)
  exact lv_iinc X.1 X.2.1 hd (lvl_has hl) hq hv (Nat.lt_of_lt_of_le (by simp only [List.length_cons]; omega) hl.2.2.1) rfl (fun ls' h' => kk p e s m args below meth c Q A H locs ls' X hP hD hS (lvl_put hl rfl h'))
theorem g_ic0_n {a : Nat} (hd : decode cc pc = .ok (.iinc 0 1, 3)) (kk : G l R kc ks cc nL own D tys Γ ws (pc + 3) (some (.int (nI (a + 1))) :: t) st) : G l R kc ks cc nL own D tys Γ ws pc (some (.int (nI a)) :: t) st := g_ic0 hd (nI_1 a) kk
theorem g_il1 {x : Int32} (hd : decode cc pc = .ok (.iload_n 1, 1)) (kk : G l R kc ks cc nL own D tys Γ ws (pc + 1) (v0 :: some (.int x) :: t) (.int x :: st)) : G l R kc ks cc nL own D tys Γ ws pc (v0 :: some (.int x) :: t) st := fun p e s m args below meth c Q A H locs ls X hP hD hS hl => lv_iload_n X.1 X.2.1 hd rfl (lvl_at hl (i := 1) rfl) (kk p e s m args below meth c Q A H locs ls X hP hD hS hl)
theorem g_is1 {x : Int32} {w : Option Value} (hd : decode cc pc = .ok (.istore_n 1, 1)) (kk : G l R kc ks cc nL own D tys Γ ws (pc + 1) (v0 :: some (.int x) :: t) st) : G l R kc ks cc nL own D tys Γ ws pc (v0 :: w :: t) (.int x :: st) := fun p e s m args below meth c Q A H locs ls X hP hD hS hl => lv_istore_n X.1 X.2.1 hd rfl (lvl_has hl) (Nat.lt_of_lt_of_le (by simp only [List.length_cons]; omega) hl.2.2.1) rfl (fun ls' h' => kk p e s m args below meth c Q A H locs ls' X hP hD hS (lvl_put hl rfl h'))
theorem g_ic1 {x v : Int32} {z : Int} (hd : decode cc pc = .ok (.iinc 1 z, 3)) (hv : x + Int32.ofInt z = v) (kk : G l R kc ks cc nL own D tys Γ ws (pc + 3) (v0 :: some (.int v) :: t) st) : G l R kc ks cc nL own D tys Γ ws pc (v0 :: some (.int x) :: t) st := by
  intro p e s m args below meth c Q A H locs ls X hP hD hS hl
  obtain ⟨q, hq⟩ := List.getElem?_of_mem (lvp_mem (lv := v0 :: some (.int x) :: t) (i := 1) (v := .int x) rfl)
  exact lv_iinc X.1 X.2.1 hd (lvl_has hl) hq hv (Nat.lt_of_lt_of_le (by simp only [List.length_cons]; omega) hl.2.2.1) rfl (fun ls' h' => kk p e s m args below meth c Q A H locs ls' X hP hD hS (lvl_put hl rfl h'))
theorem g_ic1_n {a : Nat} (hd : decode cc pc = .ok (.iinc 1 1, 3)) (kk : G l R kc ks cc nL own D tys Γ ws (pc + 3) (v0 :: some (.int (nI (a + 1))) :: t) st) : G l R kc ks cc nL own D tys Γ ws pc (v0 :: some (.int (nI a)) :: t) st := g_ic1 hd (nI_1 a) kk
theorem g_il2 {x : Int32} (hd : decode cc pc = .ok (.iload_n 2, 1)) (kk : G l R kc ks cc nL own D tys Γ ws (pc + 1) (v0 :: v1 :: some (.int x) :: t) (.int x :: st)) : G l R kc ks cc nL own D tys Γ ws pc (v0 :: v1 :: some (.int x) :: t) st := fun p e s m args below meth c Q A H locs ls X hP hD hS hl => lv_iload_n X.1 X.2.1 hd rfl (lvl_at hl (i := 2) rfl) (kk p e s m args below meth c Q A H locs ls X hP hD hS hl)
theorem g_is2 {x : Int32} {w : Option Value} (hd : decode cc pc = .ok (.istore_n 2, 1)) (kk : G l R kc ks cc nL own D tys Γ ws (pc + 1) (v0 :: v1 :: some (.int x) :: t) st) : G l R kc ks cc nL own D tys Γ ws pc (v0 :: v1 :: w :: t) (.int x :: st) := fun p e s m args below meth c Q A H locs ls X hP hD hS hl => lv_istore_n X.1 X.2.1 hd rfl (lvl_has hl) (Nat.lt_of_lt_of_le (by simp only [List.length_cons]; omega) hl.2.2.1) rfl (fun ls' h' => kk p e s m args below meth c Q A H locs ls' X hP hD hS (lvl_put hl rfl h'))
theorem g_ic2 {x v : Int32} {z : Int} (hd : decode cc pc = .ok (.iinc 2 z, 3)) (hv : x + Int32.ofInt z = v) (kk : G l R kc ks cc nL own D tys Γ ws (pc + 3) (v0 :: v1 :: some (.int v) :: t) st) : G l R kc ks cc nL own D tys Γ ws pc (v0 :: v1 :: some (.int x) :: t) st := by
  intro p e s m args below meth c Q A H locs ls X hP hD hS hl
  obtain ⟨q, hq⟩ := List.getElem?_of_mem (lvp_mem (lv := v0 :: v1 :: some (.int x) :: t) (i := 2) (v := .int x) rfl)
  exact lv_iinc X.1 X.2.1 hd (lvl_has hl) hq hv (Nat.lt_of_lt_of_le (by simp only [List.length_cons]; omega) hl.2.2.1) rfl (fun ls' h' => kk p e s m args below meth c Q A H locs ls' X hP hD hS (lvl_put hl rfl h'))
theorem g_ic2_n {a : Nat} (hd : decode cc pc = .ok (.iinc 2 1, 3)) (kk : G l R kc ks cc nL own D tys Γ ws (pc + 3) (v0 :: v1 :: some (.int (nI (a + 1))) :: t) st) : G l R kc ks cc nL own D tys Γ ws pc (v0 :: v1 :: some (.int (nI a)) :: t) st := g_ic2 hd (nI_1 a) kk
theorem g_il3 {x : Int32} (hd : decode cc pc = .ok (.iload_n 3, 1)) (kk : G l R kc ks cc nL own D tys Γ ws (pc + 1) (v0 :: v1 :: v2 :: some (.int x) :: t) (.int x :: st)) : G l R kc ks cc nL own D tys Γ ws pc (v0 :: v1 :: v2 :: some (.int x) :: t) st := fun p e s m args below meth c Q A H locs ls X hP hD hS hl => lv_iload_n X.1 X.2.1 hd rfl (lvl_at hl (i := 3) rfl) (kk p e s m args below meth c Q A H locs ls X hP hD hS hl)
theorem g_is3 {x : Int32} {w : Option Value} (hd : decode cc pc = .ok (.istore_n 3, 1)) (kk : G l R kc ks cc nL own D tys Γ ws (pc + 1) (v0 :: v1 :: v2 :: some (.int x) :: t) st) : G l R kc ks cc nL own D tys Γ ws pc (v0 :: v1 :: v2 :: w :: t) (.int x :: st) := fun p e s m args below meth c Q A H locs ls X hP hD hS hl => lv_istore_n X.1 X.2.1 hd rfl (lvl_has hl) (Nat.lt_of_lt_of_le (by simp only [List.length_cons]; omega) hl.2.2.1) rfl (fun ls' h' => kk p e s m args below meth c Q A H locs ls' X hP hD hS (lvl_put hl rfl h'))
theorem g_ic3 {x v : Int32} {z : Int} (hd : decode cc pc = .ok (.iinc 3 z, 3)) (hv : x + Int32.ofInt z = v) (kk : G l R kc ks cc nL own D tys Γ ws (pc + 3) (v0 :: v1 :: v2 :: some (.int v) :: t) st) : G l R kc ks cc nL own D tys Γ ws pc (v0 :: v1 :: v2 :: some (.int x) :: t) st := by
  intro p e s m args below meth c Q A H locs ls X hP hD hS hl
  obtain ⟨q, hq⟩ := List.getElem?_of_mem (lvp_mem (lv := v0 :: v1 :: v2 :: some (.int x) :: t) (i := 3) (v := .int x) rfl)
  exact lv_iinc X.1 X.2.1 hd (lvl_has hl) hq hv (Nat.lt_of_lt_of_le (by simp only [List.length_cons]; omega) hl.2.2.1) rfl (fun ls' h' => kk p e s m args below meth c Q A H locs ls' X hP hD hS (lvl_put hl rfl h'))
theorem g_ic3_n {a : Nat} (hd : decode cc pc = .ok (.iinc 3 1, 3)) (kk : G l R kc ks cc nL own D tys Γ ws (pc + 3) (v0 :: v1 :: v2 :: some (.int (nI (a + 1))) :: t) st) : G l R kc ks cc nL own D tys Γ ws pc (v0 :: v1 :: v2 :: some (.int (nI a)) :: t) st := g_ic3 hd (nI_1 a) kk
theorem g_il4 {x : Int32} (hd : decode cc pc = .ok (.iload 4, 2)) (kk : G l R kc ks cc nL own D tys Γ ws (pc + 2) (v0 :: v1 :: v2 :: v3 :: some (.int x) :: t) (.int x :: st)) : G l R kc ks cc nL own D tys Γ ws pc (v0 :: v1 :: v2 :: v3 :: some (.int x) :: t) st := fun p e s m args below meth c Q A H locs ls X hP hD hS hl => lv_iload X.1 X.2.1 hd (lvl_at hl (i := 4) rfl) (kk p e s m args below meth c Q A H locs ls X hP hD hS hl)
theorem g_is4 {x : Int32} {w : Option Value} (hd : decode cc pc = .ok (.istore 4, 2)) (kk : G l R kc ks cc nL own D tys Γ ws (pc + 2) (v0 :: v1 :: v2 :: v3 :: some (.int x) :: t) st) : G l R kc ks cc nL own D tys Γ ws pc (v0 :: v1 :: v2 :: v3 :: w :: t) (.int x :: st) := fun p e s m args below meth c Q A H locs ls X hP hD hS hl => lv_istore X.1 X.2.1 hd (lvl_has hl) (Nat.lt_of_lt_of_le (by simp only [List.length_cons]; omega) hl.2.2.1) rfl (fun ls' h' => kk p e s m args below meth c Q A H locs ls' X hP hD hS (lvl_put hl rfl h'))
theorem g_ic4 {x v : Int32} {z : Int} (hd : decode cc pc = .ok (.iinc 4 z, 3)) (hv : x + Int32.ofInt z = v) (kk : G l R kc ks cc nL own D tys Γ ws (pc + 3) (v0 :: v1 :: v2 :: v3 :: some (.int v) :: t) st) : G l R kc ks cc nL own D tys Γ ws pc (v0 :: v1 :: v2 :: v3 :: some (.int x) :: t) st := by
  intro p e s m args below meth c Q A H locs ls X hP hD hS hl
  obtain ⟨q, hq⟩ := List.getElem?_of_mem (lvp_mem (lv := v0 :: v1 :: v2 :: v3 :: some (.int x) :: t) (i := 4) (v := .int x) rfl)
  exact lv_iinc X.1 X.2.1 hd (lvl_has hl) hq hv (Nat.lt_of_lt_of_le (by simp only [List.length_cons]; omega) hl.2.2.1) rfl (fun ls' h' => kk p e s m args below meth c Q A H locs ls' X hP hD hS (lvl_put hl rfl h'))
theorem g_ic4_n {a : Nat} (hd : decode cc pc = .ok (.iinc 4 1, 3)) (kk : G l R kc ks cc nL own D tys Γ ws (pc + 3) (v0 :: v1 :: v2 :: v3 :: some (.int (nI (a + 1))) :: t) st) : G l R kc ks cc nL own D tys Γ ws pc (v0 :: v1 :: v2 :: v3 :: some (.int (nI a)) :: t) st := g_ic4 hd (nI_1 a) kk
theorem g_il5 {x : Int32} (hd : decode cc pc = .ok (.iload 5, 2)) (kk : G l R kc ks cc nL own D tys Γ ws (pc + 2) (v0 :: v1 :: v2 :: v3 :: v4 :: some (.int x) :: t) (.int x :: st)) : G l R kc ks cc nL own D tys Γ ws pc (v0 :: v1 :: v2 :: v3 :: v4 :: some (.int x) :: t) st := fun p e s m args below meth c Q A H locs ls X hP hD hS hl => lv_iload X.1 X.2.1 hd (lvl_at hl (i := 5) rfl) (kk p e s m args below meth c Q A H locs ls X hP hD hS hl)
theorem g_is5 {x : Int32} {w : Option Value} (hd : decode cc pc = .ok (.istore 5, 2)) (kk : G l R kc ks cc nL own D tys Γ ws (pc + 2) (v0 :: v1 :: v2 :: v3 :: v4 :: some (.int x) :: t) st) : G l R kc ks cc nL own D tys Γ ws pc (v0 :: v1 :: v2 :: v3 :: v4 :: w :: t) (.int x :: st) := fun p e s m args below meth c Q A H locs ls X hP hD hS hl => lv_istore X.1 X.2.1 hd (lvl_has hl) (Nat.lt_of_lt_of_le (by simp only [List.length_cons]; omega) hl.2.2.1) rfl (fun ls' h' => kk p e s m args below meth c Q A H locs ls' X hP hD hS (lvl_put hl rfl h'))
theorem g_ic5 {x v : Int32} {z : Int} (hd : decode cc pc = .ok (.iinc 5 z, 3)) (hv : x + Int32.ofInt z = v) (kk : G l R kc ks cc nL own D tys Γ ws (pc + 3) (v0 :: v1 :: v2 :: v3 :: v4 :: some (.int v) :: t) st) : G l R kc ks cc nL own D tys Γ ws pc (v0 :: v1 :: v2 :: v3 :: v4 :: some (.int x) :: t) st := by
  intro p e s m args below meth c Q A H locs ls X hP hD hS hl
  obtain ⟨q, hq⟩ := List.getElem?_of_mem (lvp_mem (lv := v0 :: v1 :: v2 :: v3 :: v4 :: some (.int x) :: t) (i := 5) (v := .int x) rfl)
  exact lv_iinc X.1 X.2.1 hd (lvl_has hl) hq hv (Nat.lt_of_lt_of_le (by simp only [List.length_cons]; omega) hl.2.2.1) rfl (fun ls' h' => kk p e s m args below meth c Q A H locs ls' X hP hD hS (lvl_put hl rfl h'))
theorem g_ic5_n {a : Nat} (hd : decode cc pc = .ok (.iinc 5 1, 3)) (kk : G l R kc ks cc nL own D tys Γ ws (pc + 3) (v0 :: v1 :: v2 :: v3 :: v4 :: some (.int (nI (a + 1))) :: t) st) : G l R kc ks cc nL own D tys Γ ws pc (v0 :: v1 :: v2 :: v3 :: v4 :: some (.int (nI a)) :: t) st := g_ic5 hd (nI_1 a) kk
theorem g_il6 {x : Int32} (hd : decode cc pc = .ok (.iload 6, 2)) (kk : G l R kc ks cc nL own D tys Γ ws (pc + 2) (v0 :: v1 :: v2 :: v3 :: v4 :: v5 :: some (.int x) :: t) (.int x :: st)) : G l R kc ks cc nL own D tys Γ ws pc (v0 :: v1 :: v2 :: v3 :: v4 :: v5 :: some (.int x) :: t) st := fun p e s m args below meth c Q A H locs ls X hP hD hS hl => lv_iload X.1 X.2.1 hd (lvl_at hl (i := 6) rfl) (kk p e s m args below meth c Q A H locs ls X hP hD hS hl)
theorem g_is6 {x : Int32} {w : Option Value} (hd : decode cc pc = .ok (.istore 6, 2)) (kk : G l R kc ks cc nL own D tys Γ ws (pc + 2) (v0 :: v1 :: v2 :: v3 :: v4 :: v5 :: some (.int x) :: t) st) : G l R kc ks cc nL own D tys Γ ws pc (v0 :: v1 :: v2 :: v3 :: v4 :: v5 :: w :: t) (.int x :: st) := fun p e s m args below meth c Q A H locs ls X hP hD hS hl => lv_istore X.1 X.2.1 hd (lvl_has hl) (Nat.lt_of_lt_of_le (by simp only [List.length_cons]; omega) hl.2.2.1) rfl (fun ls' h' => kk p e s m args below meth c Q A H locs ls' X hP hD hS (lvl_put hl rfl h'))
theorem g_ic6 {x v : Int32} {z : Int} (hd : decode cc pc = .ok (.iinc 6 z, 3)) (hv : x + Int32.ofInt z = v) (kk : G l R kc ks cc nL own D tys Γ ws (pc + 3) (v0 :: v1 :: v2 :: v3 :: v4 :: v5 :: some (.int v) :: t) st) : G l R kc ks cc nL own D tys Γ ws pc (v0 :: v1 :: v2 :: v3 :: v4 :: v5 :: some (.int x) :: t) st := by
  intro p e s m args below meth c Q A H locs ls X hP hD hS hl
  obtain ⟨q, hq⟩ := List.getElem?_of_mem (lvp_mem (lv := v0 :: v1 :: v2 :: v3 :: v4 :: v5 :: some (.int x) :: t) (i := 6) (v := .int x) rfl)
  exact lv_iinc X.1 X.2.1 hd (lvl_has hl) hq hv (Nat.lt_of_lt_of_le (by simp only [List.length_cons]; omega) hl.2.2.1) rfl (fun ls' h' => kk p e s m args below meth c Q A H locs ls' X hP hD hS (lvl_put hl rfl h'))
theorem g_ic6_n {a : Nat} (hd : decode cc pc = .ok (.iinc 6 1, 3)) (kk : G l R kc ks cc nL own D tys Γ ws (pc + 3) (v0 :: v1 :: v2 :: v3 :: v4 :: v5 :: some (.int (nI (a + 1))) :: t) st) : G l R kc ks cc nL own D tys Γ ws pc (v0 :: v1 :: v2 :: v3 :: v4 :: v5 :: some (.int (nI a)) :: t) st := g_ic6 hd (nI_1 a) kk
theorem g_il7 {x : Int32} (hd : decode cc pc = .ok (.iload 7, 2)) (kk : G l R kc ks cc nL own D tys Γ ws (pc + 2) (v0 :: v1 :: v2 :: v3 :: v4 :: v5 :: v6 :: some (.int x) :: t) (.int x :: st)) : G l R kc ks cc nL own D tys Γ ws pc (v0 :: v1 :: v2 :: v3 :: v4 :: v5 :: v6 :: some (.int x) :: t) st := fun p e s m args below meth c Q A H locs ls X hP hD hS hl => lv_iload X.1 X.2.1 hd (lvl_at hl (i := 7) rfl) (kk p e s m args below meth c Q A H locs ls X hP hD hS hl)
theorem g_is7 {x : Int32} {w : Option Value} (hd : decode cc pc = .ok (.istore 7, 2)) (kk : G l R kc ks cc nL own D tys Γ ws (pc + 2) (v0 :: v1 :: v2 :: v3 :: v4 :: v5 :: v6 :: some (.int x) :: t) st) : G l R kc ks cc nL own D tys Γ ws pc (v0 :: v1 :: v2 :: v3 :: v4 :: v5 :: v6 :: w :: t) (.int x :: st) := fun p e s m args below meth c Q A H locs ls X hP hD hS hl => lv_istore X.1 X.2.1 hd (lvl_has hl) (Nat.lt_of_lt_of_le (by simp only [List.length_cons]; omega) hl.2.2.1) rfl (fun ls' h' => kk p e s m args below meth c Q A H locs ls' X hP hD hS (lvl_put hl rfl h'))
theorem g_ic7 {x v : Int32} {z : Int} (hd : decode cc pc = .ok (.iinc 7 z, 3)) (hv : x + Int32.ofInt z = v) (kk : G l R kc ks cc nL own D tys Γ ws (pc + 3) (v0 :: v1 :: v2 :: v3 :: v4 :: v5 :: v6 :: some (.int v) :: t) st) : G l R kc ks cc nL own D tys Γ ws pc (v0 :: v1 :: v2 :: v3 :: v4 :: v5 :: v6 :: some (.int x) :: t) st := by
  intro p e s m args below meth c Q A H locs ls X hP hD hS hl
  obtain ⟨q, hq⟩ := List.getElem?_of_mem (lvp_mem (lv := v0 :: v1 :: v2 :: v3 :: v4 :: v5 :: v6 :: some (.int x) :: t) (i := 7) (v := .int x) rfl)
  exact lv_iinc X.1 X.2.1 hd (lvl_has hl) hq hv (Nat.lt_of_lt_of_le (by simp only [List.length_cons]; omega) hl.2.2.1) rfl (fun ls' h' => kk p e s m args below meth c Q A H locs ls' X hP hD hS (lvl_put hl rfl h'))
theorem g_ic7_n {a : Nat} (hd : decode cc pc = .ok (.iinc 7 1, 3)) (kk : G l R kc ks cc nL own D tys Γ ws (pc + 3) (v0 :: v1 :: v2 :: v3 :: v4 :: v5 :: v6 :: some (.int (nI (a + 1))) :: t) st) : G l R kc ks cc nL own D tys Γ ws pc (v0 :: v1 :: v2 :: v3 :: v4 :: v5 :: v6 :: some (.int (nI a)) :: t) st := g_ic7 hd (nI_1 a) kk
theorem g_il8 {x : Int32} (hd : decode cc pc = .ok (.iload 8, 2)) (kk : G l R kc ks cc nL own D tys Γ ws (pc + 2) (v0 :: v1 :: v2 :: v3 :: v4 :: v5 :: v6 :: v7 :: some (.int x) :: t) (.int x :: st)) : G l R kc ks cc nL own D tys Γ ws pc (v0 :: v1 :: v2 :: v3 :: v4 :: v5 :: v6 :: v7 :: some (.int x) :: t) st := fun p e s m args below meth c Q A H locs ls X hP hD hS hl => lv_iload X.1 X.2.1 hd (lvl_at hl (i := 8) rfl) (kk p e s m args below meth c Q A H locs ls X hP hD hS hl)
theorem g_is8 {x : Int32} {w : Option Value} (hd : decode cc pc = .ok (.istore 8, 2)) (kk : G l R kc ks cc nL own D tys Γ ws (pc + 2) (v0 :: v1 :: v2 :: v3 :: v4 :: v5 :: v6 :: v7 :: some (.int x) :: t) st) : G l R kc ks cc nL own D tys Γ ws pc (v0 :: v1 :: v2 :: v3 :: v4 :: v5 :: v6 :: v7 :: w :: t) (.int x :: st) := fun p e s m args below meth c Q A H locs ls X hP hD hS hl => lv_istore X.1 X.2.1 hd (lvl_has hl) (Nat.lt_of_lt_of_le (by simp only [List.length_cons]; omega) hl.2.2.1) rfl (fun ls' h' => kk p e s m args below meth c Q A H locs ls' X hP hD hS (lvl_put hl rfl h'))
theorem g_ic8 {x v : Int32} {z : Int} (hd : decode cc pc = .ok (.iinc 8 z, 3)) (hv : x + Int32.ofInt z = v) (kk : G l R kc ks cc nL own D tys Γ ws (pc + 3) (v0 :: v1 :: v2 :: v3 :: v4 :: v5 :: v6 :: v7 :: some (.int v) :: t) st) : G l R kc ks cc nL own D tys Γ ws pc (v0 :: v1 :: v2 :: v3 :: v4 :: v5 :: v6 :: v7 :: some (.int x) :: t) st := by
  intro p e s m args below meth c Q A H locs ls X hP hD hS hl
  obtain ⟨q, hq⟩ := List.getElem?_of_mem (lvp_mem (lv := v0 :: v1 :: v2 :: v3 :: v4 :: v5 :: v6 :: v7 :: some (.int x) :: t) (i := 8) (v := .int x) rfl)
  exact lv_iinc X.1 X.2.1 hd (lvl_has hl) hq hv (Nat.lt_of_lt_of_le (by simp only [List.length_cons]; omega) hl.2.2.1) rfl (fun ls' h' => kk p e s m args below meth c Q A H locs ls' X hP hD hS (lvl_put hl rfl h'))
theorem g_ic8_n {a : Nat} (hd : decode cc pc = .ok (.iinc 8 1, 3)) (kk : G l R kc ks cc nL own D tys Γ ws (pc + 3) (v0 :: v1 :: v2 :: v3 :: v4 :: v5 :: v6 :: v7 :: some (.int (nI (a + 1))) :: t) st) : G l R kc ks cc nL own D tys Γ ws pc (v0 :: v1 :: v2 :: v3 :: v4 :: v5 :: v6 :: v7 :: some (.int (nI a)) :: t) st := g_ic8 hd (nI_1 a) kk
theorem g_il9 {x : Int32} (hd : decode cc pc = .ok (.iload 9, 2)) (kk : G l R kc ks cc nL own D tys Γ ws (pc + 2) (v0 :: v1 :: v2 :: v3 :: v4 :: v5 :: v6 :: v7 :: v8 :: some (.int x) :: t) (.int x :: st)) : G l R kc ks cc nL own D tys Γ ws pc (v0 :: v1 :: v2 :: v3 :: v4 :: v5 :: v6 :: v7 :: v8 :: some (.int x) :: t) st := fun p e s m args below meth c Q A H locs ls X hP hD hS hl => lv_iload X.1 X.2.1 hd (lvl_at hl (i := 9) rfl) (kk p e s m args below meth c Q A H locs ls X hP hD hS hl)
theorem g_is9 {x : Int32} {w : Option Value} (hd : decode cc pc = .ok (.istore 9, 2)) (kk : G l R kc ks cc nL own D tys Γ ws (pc + 2) (v0 :: v1 :: v2 :: v3 :: v4 :: v5 :: v6 :: v7 :: v8 :: some (.int x) :: t) st) : G l R kc ks cc nL own D tys Γ ws pc (v0 :: v1 :: v2 :: v3 :: v4 :: v5 :: v6 :: v7 :: v8 :: w :: t) (.int x :: st) := fun p e s m args below meth c Q A H locs ls X hP hD hS hl => lv_istore X.1 X.2.1 hd (lvl_has hl) (Nat.lt_of_lt_of_le (by simp only [List.length_cons]; omega) hl.2.2.1) rfl (fun ls' h' => kk p e s m args below meth c Q A H locs ls' X hP hD hS (lvl_put hl rfl h'))
theorem g_ic9 {x v : Int32} {z : Int} (hd : decode cc pc = .ok (.iinc 9 z, 3)) (hv : x + Int32.ofInt z = v) (kk : G l R kc ks cc nL own D tys Γ ws (pc + 3) (v0 :: v1 :: v2 :: v3 :: v4 :: v5 :: v6 :: v7 :: v8 :: some (.int v) :: t) st) : G l R kc ks cc nL own D tys Γ ws pc (v0 :: v1 :: v2 :: v3 :: v4 :: v5 :: v6 :: v7 :: v8 :: some (.int x) :: t) st := by
  intro p e s m args below meth c Q A H locs ls X hP hD hS hl
  obtain ⟨q, hq⟩ := List.getElem?_of_mem (lvp_mem (lv := v0 :: v1 :: v2 :: v3 :: v4 :: v5 :: v6 :: v7 :: v8 :: some (.int x) :: t) (i := 9) (v := .int x) rfl)
  exact lv_iinc X.1 X.2.1 hd (lvl_has hl) hq hv (Nat.lt_of_lt_of_le (by simp only [List.length_cons]; omega) hl.2.2.1) rfl (fun ls' h' => kk p e s m args below meth c Q A H locs ls' X hP hD hS (lvl_put hl rfl h'))
theorem g_ic9_n {a : Nat} (hd : decode cc pc = .ok (.iinc 9 1, 3)) (kk : G l R kc ks cc nL own D tys Γ ws (pc + 3) (v0 :: v1 :: v2 :: v3 :: v4 :: v5 :: v6 :: v7 :: v8 :: some (.int (nI (a + 1))) :: t) st) : G l R kc ks cc nL own D tys Γ ws pc (v0 :: v1 :: v2 :: v3 :: v4 :: v5 :: v6 :: v7 :: v8 :: some (.int (nI a)) :: t) st := g_ic9 hd (nI_1 a) kk
theorem g_il10 {x : Int32} (hd : decode cc pc = .ok (.iload 10, 2)) (kk : G l R kc ks cc nL own D tys Γ ws (pc + 2) (v0 :: v1 :: v2 :: v3 :: v4 :: v5 :: v6 :: v7 :: v8 :: v9 :: some (.int x) :: t) (.int x :: st)) : G l R kc ks cc nL own D tys Γ ws pc (v0 :: v1 :: v2 :: v3 :: v4 :: v5 :: v6 :: v7 :: v8 :: v9 :: some (.int x) :: t) st := fun p e s m args below meth c Q A H locs ls X hP hD hS hl => lv_iload X.1 X.2.1 hd (lvl_at hl (i := 10) rfl) (kk p e s m args below meth c Q A H locs ls X hP hD hS hl)
theorem g_is10 {x : Int32} {w : Option Value} (hd : decode cc pc = .ok (.istore 10, 2)) (kk : G l R kc ks cc nL own D tys Γ ws (pc + 2) (v0 :: v1 :: v2 :: v3 :: v4 :: v5 :: v6 :: v7 :: v8 :: v9 :: some (.int x) :: t) st) : G l R kc ks cc nL own D tys Γ ws pc (v0 :: v1 :: v2 :: v3 :: v4 :: v5 :: v6 :: v7 :: v8 :: v9 :: w :: t) (.int x :: st) := fun p e s m args below meth c Q A H locs ls X hP hD hS hl => lv_istore X.1 X.2.1 hd (lvl_has hl) (Nat.lt_of_lt_of_le (by simp only [List.length_cons]; omega) hl.2.2.1) rfl (fun ls' h' => kk p e s m args below meth c Q A H locs ls' X hP hD hS (lvl_put hl rfl h'))
theorem g_ic10 {x v : Int32} {z : Int} (hd : decode cc pc = .ok (.iinc 10 z, 3)) (hv : x + Int32.ofInt z = v) (kk : G l R kc ks cc nL own D tys Γ ws (pc + 3) (v0 :: v1 :: v2 :: v3 :: v4 :: v5 :: v6 :: v7 :: v8 :: v9 :: some (.int v) :: t) st) : G l R kc ks cc nL own D tys Γ ws pc (v0 :: v1 :: v2 :: v3 :: v4 :: v5 :: v6 :: v7 :: v8 :: v9 :: some (.int x) :: t) st := by
  intro p e s m args below meth c Q A H locs ls X hP hD hS hl
  obtain ⟨q, hq⟩ := List.getElem?_of_mem (lvp_mem (lv := v0 :: v1 :: v2 :: v3 :: v4 :: v5 :: v6 :: v7 :: v8 :: v9 :: some (.int x) :: t) (i := 10) (v := .int x) rfl)
  exact lv_iinc X.1 X.2.1 hd (lvl_has hl) hq hv (Nat.lt_of_lt_of_le (by simp only [List.length_cons]; omega) hl.2.2.1) rfl (fun ls' h' => kk p e s m args below meth c Q A H locs ls' X hP hD hS (lvl_put hl rfl h'))
theorem g_ic10_n {a : Nat} (hd : decode cc pc = .ok (.iinc 10 1, 3)) (kk : G l R kc ks cc nL own D tys Γ ws (pc + 3) (v0 :: v1 :: v2 :: v3 :: v4 :: v5 :: v6 :: v7 :: v8 :: v9 :: some (.int (nI (a + 1))) :: t) st) : G l R kc ks cc nL own D tys Γ ws pc (v0 :: v1 :: v2 :: v3 :: v4 :: v5 :: v6 :: v7 :: v8 :: v9 :: some (.int (nI a)) :: t) st := g_ic10 hd (nI_1 a) kk
theorem g_al0 {a : Nat} (hd : decode cc pc = .ok (.aload_n 0, 1)) (kk : G l R kc ks cc nL own D tys Γ ws (pc + 1) (some (.ref a) :: t) (.ref a :: st)) : G l R kc ks cc nL own D tys Γ ws pc (some (.ref a) :: t) st := fun p e s m args below meth c Q A H locs ls X hP hD hS hl => lv_aload_n X.1 X.2.1 hd rfl (lvl_at hl (i := 0) rfl) (kk p e s m args below meth c Q A H locs ls X hP hD hS hl)
theorem g_as0 {a : Nat} {w : Option Value} (hd : decode cc pc = .ok (.astore_n 0, 1)) (kk : G l R kc ks cc nL own D tys Γ ws (pc + 1) (some (.ref a) :: t) st) : G l R kc ks cc nL own D tys Γ ws pc (w :: t) (.ref a :: st) := fun p e s m args below meth c Q A H locs ls X hP hD hS hl => lv_astore_n X.1 X.2.1 hd rfl (lvl_has hl) (Nat.lt_of_lt_of_le (by simp only [List.length_cons]; omega) hl.2.2.1) rfl (fun ls' h' => kk p e s m args below meth c Q A H locs ls' X hP hD hS (lvl_put hl rfl h'))
theorem g_al1 {a : Nat} (hd : decode cc pc = .ok (.aload_n 1, 1)) (kk : G l R kc ks cc nL own D tys Γ ws (pc + 1) (v0 :: some (.ref a) :: t) (.ref a :: st)) : G l R kc ks cc nL own D tys Γ ws pc (v0 :: some (.ref a) :: t) st := fun p e s m args below meth c Q A H locs ls X hP hD hS hl => lv_aload_n X.1 X.2.1 hd rfl (lvl_at hl (i := 1) rfl) (kk p e s m args below meth c Q A H locs ls X hP hD hS hl)
theorem g_as1 {a : Nat} {w : Option Value} (hd : decode cc pc = .ok (.astore_n 1, 1)) (kk : G l R kc ks cc nL own D tys Γ ws (pc + 1) (v0 :: some (.ref a) :: t) st) : G l R kc ks cc nL own D tys Γ ws pc (v0 :: w :: t) (.ref a :: st) := fun p e s m args below meth c Q A H locs ls X hP hD hS hl => lv_astore_n X.1 X.2.1 hd rfl (lvl_has hl) (Nat.lt_of_lt_of_le (by simp only [List.length_cons]; omega) hl.2.2.1) rfl (fun ls' h' => kk p e s m args below meth c Q A H locs ls' X hP hD hS (lvl_put hl rfl h'))
theorem g_al2 {a : Nat} (hd : decode cc pc = .ok (.aload_n 2, 1)) (kk : G l R kc ks cc nL own D tys Γ ws (pc + 1) (v0 :: v1 :: some (.ref a) :: t) (.ref a :: st)) : G l R kc ks cc nL own D tys Γ ws pc (v0 :: v1 :: some (.ref a) :: t) st := fun p e s m args below meth c Q A H locs ls X hP hD hS hl => lv_aload_n X.1 X.2.1 hd rfl (lvl_at hl (i := 2) rfl) (kk p e s m args below meth c Q A H locs ls X hP hD hS hl)
theorem g_as2 {a : Nat} {w : Option Value} (hd : decode cc pc = .ok (.astore_n 2, 1)) (kk : G l R kc ks cc nL own D tys Γ ws (pc + 1) (v0 :: v1 :: some (.ref a) :: t) st) : G l R kc ks cc nL own D tys Γ ws pc (v0 :: v1 :: w :: t) (.ref a :: st) := fun p e s m args below meth c Q A H locs ls X hP hD hS hl => lv_astore_n X.1 X.2.1 hd rfl (lvl_has hl) (Nat.lt_of_lt_of_le (by simp only [List.length_cons]; omega) hl.2.2.1) rfl (fun ls' h' => kk p e s m args below meth c Q A H locs ls' X hP hD hS (lvl_put hl rfl h'))
/-- fields -/
theorem g_get {C : String} {T : u_T} {N ci index a : Nat} {fs : List Value} {v : Value} (hin : ∀ w ∈ u_ws C T N, w ∈ lw_all) (q0 : Nat) (he : ws[q0]? = some (a, .inr (ci, fs))) (hc : vwCl[ci]? = some (C, T, N)) (k : Nat) (hk : k < N) (hlink : Cond.fieldLink own index (T k).1 (T k).2.1 (T k).2.2.1 ∈ lw_all) (hv : fs[k]? = some v) (hd : decode cc pc = .ok (.getfield index, 3)) (kk : G l R kc ks cc nL own D tys Γ ws (pc + 3) lv (v :: st)) : G l R kc ks cc nL own D tys Γ ws pc lv (.ref a :: st) :=
  fun p e s m args below meth c Q A H locs ls X hP hD hS hl => va_get X.1 X.2.1 X.2.2.2.2.1 hin X.2.2.2.1 X.2.2.2.2.2.2.1 hP q0 he hc k hk (X.2.2.2.2.1 _ hlink) (fun _ h => h) hv hd (kk p e s m args below meth c Q A H locs ls X hP hD hS hl)
theorem g_put {C : String} {T : u_T} {N ci index a : Nat} {fs : List Value} {v : Value} {ty : FieldType} {ty0 : Nat → FieldType} {ws' : va_W} (hin : ∀ w ∈ u_ws C T N, w ∈ lw_all) (hty : ∀ k, k < N → parseFieldDescriptor (T k).2.2.1 = some (ty0 k)) (hnm : ∀ a, a < N → ∀ b, b < N → a ≠ b → (T a).2.1 ≠ (T b).2.1) (q0 : Nat) (he : ws[q0]? = some (a, .inr (ci, fs))) (hc : vwCl[ci]? = some (C, T, N)) (k : Nat) (hk : k < N) (hlink : Cond.fieldLink own index (T k).1 (T k).2.1 (T k).2.2.1 ∈ lw_all) (hfin : (T k).2.2.2 = false) (hpd : parseFieldDescriptor (T k).2.2.1 = some ty) (hn : narrow ty v = v) (hfit : fits ty v = true) (hl0 : k < fs.length) (hd : decode cc pc = .ok (.putfield index, 3)) (hw : ws.set q0 (a, .inr (ci, fs.set k v)) = ws') (kk : G l R kc ks cc nL own D tys Γ ws' (pc + 3) lv st) : G l R kc ks cc nL own D tys Γ ws pc lv (v :: .ref a :: st) := by
  intro p e s m args below meth c Q A H locs ls X hP hD hS hl
  subst hw
  exact va_put X.1 X.2.1 X.2.2.2.2.1 hin ty0 hty hnm X.2.2.2.1 X.2.2.2.2.2.2.1 hP hD hS q0 he hc k hk (X.2.2.2.2.1 _ hlink) (fun _ h => h) hfin hpd hn hfit hl0 hd (fun H1 locs1 hP1 hD1 hS1 => kk p e s m args below meth c Q A H1 locs1 ls X hP1 hD1 hS1 hl)
/-- a final field in a constructor -/
theorem g_putF {C : String} {T : u_T} {N ci index a : Nat} {fs : List Value} {v : Value} {ty : FieldType} {ty0 : Nat → FieldType} {ws' : va_W} (hi : ∀ (p : Program) (e : Env) (s : State) (m : MethodId) (args : Array Value) (below : List Frame) (meth : Method) (c : Code) (Q : State → Prop) (A : Nat → Prop), Γ p e s m args below meth c Q A → meth.name = "<init>") (hin : ∀ w ∈ u_ws C T N, w ∈ lw_all) (hty : ∀ k, k < N → parseFieldDescriptor (T k).2.2.1 = some (ty0 k)) (hnm : ∀ a, a < N → ∀ b, b < N → a ≠ b → (T a).2.1 ≠ (T b).2.1) (q0 : Nat) (he : ws[q0]? = some (a, .inr (ci, fs))) (hc : vwCl[ci]? = some (C, T, N)) (k : Nat) (hk : k < N) (hlink : Cond.fieldLink own index (T k).1 (T k).2.1 (T k).2.2.1 ∈ lw_all) (hfin : (T k).2.2.2 = true) (hdecl : (T k).1 = own) (hpd : parseFieldDescriptor (T k).2.2.1 = some ty) (hn : narrow ty v = v) (hfit : fits ty v = true) (hl0 : k < fs.length) (hd : decode cc pc = .ok (.putfield index, 3)) (hw : ws.set q0 (a, .inr (ci, fs.set k v)) = ws') (kk : G l R kc ks cc nL own D tys Γ ws' (pc + 3) lv st) : G l R kc ks cc nL own D tys Γ ws pc lv (v :: .ref a :: st) := by
  intro p e s m args below meth c Q A H locs ls X hP hD hS hl
  subst hw
  exact va_putF X.1 X.2.1 X.2.2.2.2.1 hin ty0 hty hnm X.2.2.2.1 X.2.2.2.2.2.2.1 hP hD hS q0 he hc k hk (X.2.2.2.2.1 _ hlink) (fun _ h => h) hfin (hi _ _ _ _ _ _ _ _ _ _ X.2.2.2.2.2.2.2.2) hdecl hpd hn hfit hl0 hd (fun H1 locs1 hP1 hD1 hS1 => kk p e s m args below meth c Q A H1 locs1 ls X hP1 hD1 hS1 hl)
/-- a new array of ints, bytes or booleans -/
theorem g_newa {atype : ArrayType} {ty : FieldType} {N : Nat} (harr : Cond.arrayClass (newarray.typeOf atype) ∈ lw_all) (hty : newarray.typeOf atype = ty) (hdef : defaultValue ty = .int 0) (hd : decode cc pc = .ok (.newarray atype, 2)) (hN : N < 2 ^ 31) (hbytes : N * componentBytes ty ≤ 536870912) (hcells : kc + 1 ≤ R.cells) (hslots : ks + N ≤ R.slots) (kk : ∀ (q : Nat) (cA : ClassId), G l R (kc + 1) (ks + N) cc nL own D (tys ++ [(cA, ty)]) Γ (ws ++ [(q, .inl (cA, N, .inl (fun _ => 0)))]) (pc + 2) lv (.ref q :: st)) : G l R kc ks cc nL own D tys Γ ws pc lv (.int (nI N) :: st) := by
  intro p e s m args below meth c Q A H locs ls X hP hD hS hl
  refine va_newa (a0 := (N, .inl (fun _ => 0))) X.1 X.2.1 (X.2.2.2.2.1 _ harr) hty X.2.2.2.2.2.2.1 hP hD hS X.2.2.2.2.2.2.2.1 (fun cA => by rw [hdef]; rfl) (nI_pos hN) (nI_clamp hN) hbytes hcells hslots hd (fun q cA H1 hK1 hP1 hD1 hS1 => ?_)
  exact kk q cA p e s m args below meth c Q A H1 locs ls ⟨X.1, X.2.1, X.2.2.1, X.2.2.2.1, X.2.2.2.2.1, X.2.2.2.2.2.1, hK1, X.2.2.2.2.2.2.2⟩ hP1 hD1 hS1 hl
/-- arrays: a read and a write at the place nI j -/
theorem g_iald {a N j : Nat} {cA : ClassId} {f : Nat → Int32} (q0 t0 : Nat) (ha : ws[q0]? = some (a, .inl (cA, N, .inl f))) (ht : tys[t0]? = some (cA, .int)) (hd : decode cc pc = .ok (.iaload, 1)) (hN : N < 2 ^ 31) (hj : j < N) (kk : G l R kc ks cc nL own D tys Γ ws (pc + 1) lv (.int (f j) :: st)) : G l R kc ks cc nL own D tys Γ ws pc lv (.int (nI j) :: .ref a :: st) := by
  intro p e s m args below meth c Q A H locs ls X hP hD hS hl
  refine va_iald X.1 X.2.1 X.2.2.2.2.2.2.1 hP q0 t0 ha ht (vp_in_nI hj hN) hd ?_
  rw [nI_clamp (Nat.lt_trans hj hN)]
  exact kk p e s m args below meth c Q A H locs ls X hP hD hS hl
theorem g_bald {a N j : Nat} {cA : ClassId} {f : Nat → Int32} (q0 t0 : Nat) (ha : ws[q0]? = some (a, .inl (cA, N, .inl f))) (ht : tys[t0]? = some (cA, .byte)) (hd : decode cc pc = .ok (.baload, 1)) (hN : N < 2 ^ 31) (hj : j < N) (kk : G l R kc ks cc nL own D tys Γ ws (pc + 1) lv (.int (f j) :: st)) : G l R kc ks cc nL own D tys Γ ws pc lv (.int (nI j) :: .ref a :: st) := by
  intro p e s m args below meth c Q A H locs ls X hP hD hS hl
  refine va_bald X.1 X.2.1 X.2.2.2.2.2.2.1 hP q0 t0 ha ht (vp_in_nI hj hN) hd ?_
  rw [nI_clamp (Nat.lt_trans hj hN)]
  exact kk p e s m args below meth c Q A H locs ls X hP hD hS hl
theorem g_zald {a N j : Nat} {cA : ClassId} {f : Nat → Int32} (q0 t0 : Nat) (ha : ws[q0]? = some (a, .inl (cA, N, .inl f))) (ht : tys[t0]? = some (cA, .boolean)) (hd : decode cc pc = .ok (.baload, 1)) (hN : N < 2 ^ 31) (hj : j < N) (kk : G l R kc ks cc nL own D tys Γ ws (pc + 1) lv (.int (f j) :: st)) : G l R kc ks cc nL own D tys Γ ws pc lv (.int (nI j) :: .ref a :: st) := by
  intro p e s m args below meth c Q A H locs ls X hP hD hS hl
  refine va_zald X.1 X.2.1 X.2.2.2.2.2.2.1 hP q0 t0 ha ht (vp_in_nI hj hN) hd ?_
  rw [nI_clamp (Nat.lt_trans hj hN)]
  exact kk p e s m args below meth c Q A H locs ls X hP hD hS hl
theorem g_iast {a N j : Nat} {cA : ClassId} {f : Nat → Int32} {x : Int32} {ws' : va_W} (q0 t0 : Nat) (ha : ws[q0]? = some (a, .inl (cA, N, .inl f))) (ht : tys[t0]? = some (cA, .int)) (hd : decode cc pc = .ok (.iastore, 1)) (hN : N < 2 ^ 31) (hw : ws.set q0 (a, .inl (cA, N, .inl (upd f j x))) = ws') (hj : j < N) (kk : G l R kc ks cc nL own D tys Γ ws' (pc + 1) lv st) : G l R kc ks cc nL own D tys Γ ws pc lv (.int x :: .int (nI j) :: .ref a :: st) := by
  intro p e s m args below meth c Q A H locs ls X hP hD hS hl
  subst hw
  refine va_iast X.1 X.2.1 X.2.2.2.2.2.2.1 hP hD hS q0 t0 ha ht (vp_in_nI hj hN) hd (fun H1 locs1 hP1 hD1 hS1 => ?_)
  rw [nI_clamp (Nat.lt_trans hj hN)] at hP1 hD1
  exact kk p e s m args below meth c Q A H1 locs1 ls X hP1 hD1 hS1 hl
theorem g_bast {a N j : Nat} {cA : ClassId} {f : Nat → Int32} {x y : Int32} {ws' : va_W} (q0 t0 : Nat) (ha : ws[q0]? = some (a, .inl (cA, N, .inl f))) (ht : tys[t0]? = some (cA, .byte)) (hd : decode cc pc = .ok (.bastore, 1)) (hN : N < 2 ^ 31) (hw : ws.set q0 (a, .inl (cA, N, .inl (upd f j y))) = ws') (hj : j < N) (hy : vp_nar .byte x = y) (kk : G l R kc ks cc nL own D tys Γ ws' (pc + 1) lv st) : G l R kc ks cc nL own D tys Γ ws pc lv (.int x :: .int (nI j) :: .ref a :: st) := by
  intro p e s m args below meth c Q A H locs ls X hP hD hS hl
  subst hw
  refine va_bast X.1 X.2.1 X.2.2.2.2.2.2.1 hP hD hS q0 t0 ha ht (vp_in_nI hj hN) hd (fun H1 locs1 hP1 hD1 hS1 => ?_)
  rw [nI_clamp (Nat.lt_trans hj hN), hy] at hP1 hD1
  exact kk p e s m args below meth c Q A H1 locs1 ls X hP1 hD1 hS1 hl
theorem g_zast {a N j : Nat} {cA : ClassId} {f : Nat → Int32} {x y : Int32} {ws' : va_W} (q0 t0 : Nat) (ha : ws[q0]? = some (a, .inl (cA, N, .inl f))) (ht : tys[t0]? = some (cA, .boolean)) (hd : decode cc pc = .ok (.bastore, 1)) (hN : N < 2 ^ 31) (hw : ws.set q0 (a, .inl (cA, N, .inl (upd f j y))) = ws') (hj : j < N) (hy : vp_nar .boolean x = y) (kk : G l R kc ks cc nL own D tys Γ ws' (pc + 1) lv st) : G l R kc ks cc nL own D tys Γ ws pc lv (.int x :: .int (nI j) :: .ref a :: st) := by
  intro p e s m args below meth c Q A H locs ls X hP hD hS hl
  subst hw
  refine va_zast X.1 X.2.1 X.2.2.2.2.2.2.1 hP hD hS q0 t0 ha ht (vp_in_nI hj hN) hd (fun H1 locs1 hP1 hD1 hS1 => ?_)
  rw [nI_clamp (Nat.lt_trans hj hN), hy] at hP1 hD1
  exact kk p e s m args below meth c Q A H1 locs1 ls X hP1 hD1 hS1 hl
end GR
/-! CONTRACTS of methods that make no cell: the object's world is wf σ -/
def Wd (D : va_G) (tys : List (ClassId × FieldType)) (wf : gS → va_W) (A : Nat → Prop) (u : gS) (t : State) : Prop := va_P D vwCl (wf u) t.heap ∧ va_K D vwCl tys t ∧ va_D A (wf u)
def Con (l : Launch) (D : va_G) (tys : List (ClassId × FieldType)) (wf : gS → va_W) (y : MethodName) (b : ByteArray) (L : Nat) (ty : FieldType) (rm : Room) (av : List Value) (σ : gS) (post : Int32 → gS → Prop) : Prop := ∀ sz : Nat, Met l y (ws_ y b L (some ty)) rm (va_Pc av (fun U => U.heap.size = sz ∧ Wd D tys wf (fun _ => True) σ U)) (va_Qi post (Wd D tys wf (va_A (wf σ) sz)) (va_A (wf σ) sz)) 0 0 (va_A (wf σ) sz)
def ConV (l : Launch) (D : va_G) (tys : List (ClassId × FieldType)) (wf : gS → va_W) (y : MethodName) (b : ByteArray) (L : Nat) (rm : Room) (av : List Value) (σ : gS) (post : gS → Prop) : Prop := ∀ sz : Nat, Met l y (ws_ y b L none) rm (va_Pc av (fun U => U.heap.size = sz ∧ Wd D tys wf (fun _ => True) σ U)) (va_Qv post (Wd D tys wf (va_A (wf σ) sz)) (va_A (wf σ) sz)) 0 0 (va_A (wf σ) sz)
/-- the context of a method that answers an int or a boolean; of one that answers nothing -/
def gI (ty : FieldType) (av : Array Value) (D : va_G) (tys : List (ClassId × FieldType)) (wf : gS → va_W) (σ0 : gS) (sz : Nat) (post : Int32 → gS → Prop) : gC := fun _ _ s _ args below meth _ Q A => args = av ∧ meth.sig.returnType = some ty ∧ s.heap.size = sz ∧ A = va_A (wf σ0) sz ∧ Q = MQ below (va_Qi post (Wd D tys wf (va_A (wf σ0) sz)) (va_A (wf σ0) sz)) av s 0 0 (va_A (wf σ0) sz)
def gV (av : Array Value) (D : va_G) (tys : List (ClassId × FieldType)) (wf : gS → va_W) (σ0 : gS) (sz : Nat) (post : gS → Prop) : gC := fun _ _ s _ args below meth _ Q A => args = av ∧ meth.sig.returnType = none ∧ s.heap.size = sz ∧ A = va_A (wf σ0) sz ∧ Q = MQ below (va_Qv post (Wd D tys wf (va_A (wf σ0) sz)) (va_A (wf σ0) sz)) av s 0 0 (va_A (wf σ0) sz)
section GC
variable {l : Launch} {R : Room} {kc ks : Nat} {cc : ByteArray} {nL : Nat} {own : String} {D : va_G} {tys : List (ClassId × FieldType)} {Γ : gC} {pc : Nat} {lv : List (Option Value)} {st : List Value}
variable {wf : gS → va_W} {y : MethodName} {b : ByteArray} {L : Nat} {ty : FieldType} {rm : Room} {av : List Value} {σ : gS}
theorem Con.of {post : Int32 → gS → Prop} (hy : plainName y.cls = true) (ho : y.cls = own) (hL : (lg_sl av).length ≤ L) (hc : ∀ w ∈ av, w.category = 1) (hL2 : av.length ≤ L) (hlv : av.map some ++ List.replicate (L - av.length) none = lv) (h : ∀ sz : Nat, G l rm 0 0 b L own D tys (gI ty av.toArray D tys wf σ sz post) (wf σ) 0 lv []) : Con l D tys wf y b L ty rm av σ post := by
  intro sz
  refine Met.ofW (cc := b) (maxL := L) (ret := some ty) hy rfl ?_
  intro p e s m args below meth c s₁ B hml hv
  obtain ⟨rfl, hsz, hP, hK, hD0⟩ := hv
  have hts := atoms_spec (ws := ws_ y b L (some ty)) B.pre
  have hts : ∀ w ∈ lw_all, w.before _ s = true := fun w h => hts w (List.mem_cons_of_mem _ h)
  have hown : s.vm.findClass y.cls = some m.cls := findClass_of_methodNamed B.named
  rw [ho] at hown
  subst hsz
  have hl0 := lv_entry av (n := L) hL
  rw [lg_entry_eq]
  refine h s.heap.size p e s m av.toArray below meth c _ (va_A (wf σ) s.heap.size) s.heap [] _ ⟨B.exec, B.bytes, hml, hown, hts, B.notSynchronized, hK, fun q h => Or.inr h, rfl, B.returns, rfl, rfl, rfl⟩ hP hD0.self va_S.rf ?_
  subst hlv
  exact lvl_entry hl0 hc hL2
theorem ConV.of {post : gS → Prop} (hy : plainName y.cls = true) (ho : y.cls = own) (hL : (lg_sl av).length ≤ L) (hc : ∀ w ∈ av, w.category = 1) (hL2 : av.length ≤ L) (hlv : av.map some ++ List.replicate (L - av.length) none = lv) (h : ∀ sz : Nat, G l rm 0 0 b L own D tys (gV av.toArray D tys wf σ sz post) (wf σ) 0 lv []) : ConV l D tys wf y b L rm av σ post := by
  intro sz
  refine Met.ofW (cc := b) (maxL := L) (ret := none) hy rfl ?_
  intro p e s m args below meth c s₁ B hml hv
  obtain ⟨rfl, hsz, hP, hK, hD0⟩ := hv
  have hts := atoms_spec (ws := ws_ y b L none) B.pre
  have hts : ∀ w ∈ lw_all, w.before _ s = true := fun w h => hts w (List.mem_cons_of_mem _ h)
  have hown : s.vm.findClass y.cls = some m.cls := findClass_of_methodNamed B.named
  rw [ho] at hown
  subst hsz
  have hl0 := lv_entry av (n := L) hL
  rw [lg_entry_eq]
  refine h s.heap.size p e s m av.toArray below meth c _ (va_A (wf σ) s.heap.size) s.heap [] _ ⟨B.exec, B.bytes, hml, hown, hts, B.notSynchronized, hK, fun q h => Or.inr h, rfl, B.returns, rfl, rfl, rfl⟩ hP hD0.self va_S.rf ?_
  subst hlv
  exact lvl_entry hl0 hc hL2
/-- the ends -/
theorem g_iret {post : Int32 → gS → Prop} {u : gS} {v : Int32} {sz : Nat} {as : Array Value} (hd : decode cc pc = .ok (.ireturn, 1)) (hpost : post v u) : G l R 0 0 cc nL own D tys (gI .int as D tys wf σ sz post) (wf u) pc lv [.int v] := by
  intro p e s m args below meth c Q A H locs ls X hP hD hS hl
  obtain ⟨hx, hb, hml, hown, hts, hlk, hK, hA, rfl, hr, hsz, rfl, rfl⟩ := X
  exact W.iret hx hb hr (fun t ht hW => ⟨⟨v, u, rfl, hpost, by rw [ht]; exact hP, va_K.moved hW.alike hK, hD⟩, hS.F ht⟩) hS.2.2 hd hlk
theorem g_zret {post : Int32 → gS → Prop} {u : gS} {v : Int32} {sz : Nat} {as : Array Value} (hd : decode cc pc = .ok (.ireturn, 1)) (hn : narrow .boolean (.int v) = .int v) (hpost : post v u) : G l R 0 0 cc nL own D tys (gI .boolean as D tys wf σ sz post) (wf u) pc lv [.int v] := by
  intro p e s m args below meth c Q A H locs ls X hP hD hS hl
  obtain ⟨hx, hb, hml, hown, hts, hlk, hK, hA, rfl, hr, hsz, rfl, rfl⟩ := X
  exact W.zret hx hb hr hn (fun t ht hW => ⟨⟨v, u, rfl, hpost, by rw [ht]; exact hP, va_K.moved hW.alike hK, hD⟩, hS.F ht⟩) hS.2.2 hd hlk
theorem g_vret {post : gS → Prop} {u : gS} {sz : Nat} {as : Array Value} (hd : decode cc pc = .ok (.return_, 1)) (hpost : post u) : G l R 0 0 cc nL own D tys (gV as D tys wf σ sz post) (wf u) pc lv [] := by
  intro p e s m args below meth c Q A H locs ls X hP hD hS hl
  obtain ⟨hx, hb, hml, hown, hts, hlk, hK, hA, rfl, hr, hsz, rfl, rfl⟩ := X
  exact W.vret hx hb hr (fun t ht hW => ⟨⟨u, rfl, hpost, by rw [ht]; exact hP, va_K.moved hW.alike hK, hD⟩, hS.F ht⟩) hS.2.2 hd hlk
/-- a call of a method of the same object: its world is the whole -/
theorem g_call {post : Int32 → gS → Prop} {a n index ci N q0 : Nat} {As st0 : List Value} {Cn : String} {T : u_T} {fs : List Value} (hC : Con l D tys wf y b L ty rm (.ref a :: As) σ post) (hV : GoodIn lw_all (wsV own index Cn y (ws_ y b L (some ty)))) (hcell : rm.cells = 0) (hslot : rm.slots = 0) (hdesc : y.cls = Cn ∧ y.cls ≠ "java/lang/invoke/MethodHandle" ∧ y.cls ≠ "java/lang/invoke/VarHandle" ∧ (parseMethodDescriptor y.desc).map (fun d => d.parameters.length) = some n) (hR : rm.frames + 1 ≤ R.frames ∧ 8 + (L + 11) + rm.locals ≤ R.locals) (hc : vwCl[ci]? = some (Cn, T, N)) (he : (wf σ)[q0]? = some (a, .inr (ci, fs))) (hn : As.length = n) (hst : st0 = As.reverse ++ .ref a :: st) (hcat : (st.map fun v => v.category).sum ≤ 8) (hk : kc ≤ R.cells) (hs : ks ≤ R.slots) (hd : decode cc pc = .ok (.invokevirtual index, 3)) (kk : ∀ (r : Int32) (u : gS), post r u → G l R kc ks cc nL own D tys Γ (wf u) (pc + 3) lv (.int r :: st)) : G l R kc ks cc nL own D tys Γ (wf σ) pc lv st0 := by
  intro p e s m args below meth c Q A H locs ls X hP hD hS hl
  have hK := X.2.2.2.2.2.2.1
  have hA := X.2.2.2.2.2.2.2.1
  have hFc : ∀ q : Nat, va_A (wf σ) H.size q → A q := by
    intro q h
    rcases h with ⟨k, e, h⟩ | h
    · exact hD.2 k (q, e) h
    · exact hA q (Nat.le_trans hS.1 h)
  refine va_calli (va_runV (As := As) (rest := st) ⟨X.1, X.2.1, X.2.2.1, X.2.2.2.1, X.2.2.2.2.1⟩ (hC H.size) (cwV n X.2.2.2.2.1 hV rfl hcell hslot hdesc hR) ⟨fun a U g mk q => by obtain ⟨q0, q1, qP, qK, qD⟩ := q; exact ⟨q0, q1, qP, va_K.moved (u := U) (U := U.calling g mk a) (Vm.Alike.refl U.vm) qK, qD⟩, va_recv hK hP hc he, fun U hU hW => ⟨rfl, by rw [hU], by rw [hU]; exact hP, va_K.moved hW.alike hK, hD.weaken (fun _ _ _ _ => trivial)⟩⟩ rfl hn hl.1 hst (lv_room hcat) hd ⟨hk, hs⟩) hS (fun q _ h => hFc q h) hFc (fun r u t H1 locs1 ht hvm hw hB hz1 hk1 hS1 => ?_)
  obtain ⟨hP1, hK1, hD1⟩ := hB
  rw [ht] at hP1
  exact kk r u hw p e s m args below meth c Q A H1 locs1 ls X hP1 (hD1.weaken (fun _ _ _ h => hFc _ h)) hS1 hl
theorem g_callV {post : gS → Prop} {a n index ci N q0 : Nat} {As st0 : List Value} {Cn : String} {T : u_T} {fs : List Value} (hC : ConV l D tys wf y b L rm (.ref a :: As) σ post) (hV : GoodIn lw_all (wsV own index Cn y (ws_ y b L none))) (hcell : rm.cells = 0) (hslot : rm.slots = 0) (hdesc : y.cls = Cn ∧ y.cls ≠ "java/lang/invoke/MethodHandle" ∧ y.cls ≠ "java/lang/invoke/VarHandle" ∧ (parseMethodDescriptor y.desc).map (fun d => d.parameters.length) = some n) (hR : rm.frames + 1 ≤ R.frames ∧ 8 + (L + 11) + rm.locals ≤ R.locals) (hc : vwCl[ci]? = some (Cn, T, N)) (he : (wf σ)[q0]? = some (a, .inr (ci, fs))) (hn : As.length = n) (hst : st0 = As.reverse ++ .ref a :: st) (hcat : (st.map fun v => v.category).sum ≤ 8) (hk : kc ≤ R.cells) (hs : ks ≤ R.slots) (hd : decode cc pc = .ok (.invokevirtual index, 3)) (kk : ∀ (u : gS), post u → G l R kc ks cc nL own D tys Γ (wf u) (pc + 3) lv st) : G l R kc ks cc nL own D tys Γ (wf σ) pc lv st0 := by
  intro p e s m args below meth c Q A H locs ls X hP hD hS hl
  have hK := X.2.2.2.2.2.2.1
  have hA := X.2.2.2.2.2.2.2.1
  have hFc : ∀ q : Nat, va_A (wf σ) H.size q → A q := by
    intro q h
    rcases h with ⟨k, e, h⟩ | h
    · exact hD.2 k (q, e) h
    · exact hA q (Nat.le_trans hS.1 h)
  refine va_callv (va_runV (As := As) (rest := st) ⟨X.1, X.2.1, X.2.2.1, X.2.2.2.1, X.2.2.2.2.1⟩ (hC H.size) (cwV n X.2.2.2.2.1 hV rfl hcell hslot hdesc hR) ⟨fun a U g mk q => by obtain ⟨q0, q1, qP, qK, qD⟩ := q; exact ⟨q0, q1, qP, va_K.moved (u := U) (U := U.calling g mk a) (Vm.Alike.refl U.vm) qK, qD⟩, va_recv hK hP hc he, fun U hU hW => ⟨rfl, by rw [hU], by rw [hU]; exact hP, va_K.moved hW.alike hK, hD.weaken (fun _ _ _ _ => trivial)⟩⟩ rfl hn hl.1 hst (lv_room hcat) hd ⟨hk, hs⟩) hS (fun q _ h => hFc q h) hFc (fun u t H1 locs1 ht hvm hw hB hz1 hk1 hS1 => ?_)
  obtain ⟨hP1, hK1, hD1⟩ := hB
  rw [ht] at hP1
  exact kk u hw p e s m args below meth c Q A H1 locs1 ls X hP1 (hD1.weaken (fun _ _ _ h => hFc _ h)) hS1 hl
end GC
end
section
set_option maxRecDepth 100000
/-! THE WORLDS: DrcScan's object with its eight arrays, DrcScanModel's with its six; σ k: what array k holds, σ 9 0: stripCount -/
def sf (σ : gS) (k : Nat) (f : Nat → Int32) : gS := fun j => cond (Nat.beq j k) f (σ j)
def rmL (d : Nat) : Room := { frames := d, cells := 0, slots := 0, locals := 32 * d }
def w0 (ad : Nat → Nat) (kd : Nat → ClassId) (σ : gS) : va_W := [(ad 0, .inr (0, [.ref (ad 1), .ref (ad 2), .ref (ad 3), .ref (ad 4), .int (σ 9 0), .ref (ad 5), .ref (ad 6), .ref (ad 7), .ref (ad 8)])), (ad 1, .inl (kd 1, 3, .inl (σ 1))), (ad 2, .inl (kd 2, 30, .inl (σ 2))), (ad 3, .inl (kd 3, 30, .inl (σ 3))), (ad 4, .inl (kd 4, 30, .inl (σ 4))), (ad 5, .inl (kd 5, 18, .inl (σ 5))), (ad 6, .inl (kd 6, 17, .inl (σ 6))), (ad 7, .inl (kd 7, 17, .inl (σ 7))), (ad 8, .inl (kd 8, 16, .inl (σ 8)))]
def ty0 (kd : Nat → ClassId) : List (ClassId × FieldType) := [(kd 1, .byte), (kd 2, .byte), (kd 3, .byte), (kd 4, .int), (kd 5, .byte), (kd 6, .int), (kd 7, .int), (kd 8, .int)]
def w1 (ad : Nat → Nat) (kd : Nat → ClassId) (σ : gS) : va_W := [(ad 0, .inr (1, [.ref (ad 1), .ref (ad 2), .ref (ad 3), .ref (ad 4), .ref (ad 5), .ref (ad 6)])), (ad 1, .inl (kd 1, 3, .inl (σ 1))), (ad 2, .inl (kd 2, 30, .inl (σ 2))), (ad 3, .inl (kd 3, 30, .inl (σ 3))), (ad 4, .inl (kd 4, 30, .inl (σ 4))), (ad 5, .inl (kd 5, 30, .inl (σ 5))), (ad 6, .inl (kd 6, 256, .inl (σ 6)))]
def ty1 (kd : Nat → ClassId) : List (ClassId × FieldType) := [(kd 1, .int), (kd 2, .int), (kd 3, .int), (kd 4, .int), (kd 5, .int), (kd 6, .boolean)]
section GW
variable {l : Launch} {R : Room} {kc ks : Nat} {cc : ByteArray} {nL : Nat} {D : va_G} {Γ : gC} {pc : Nat} {lv : List (Option Value)} {st : List Value} {ad : Nat → Nat} {kd : Nat → ClassId} {σ : gS}
theorem g0_f7 (hd : decode cc pc = .ok (.getfield 7, 3)) (kk : G l R kc ks cc nL RX0 D (ty0 kd) Γ (w0 ad kd σ) (pc + 3) lv (.ref (ad 1) :: st)) : G l R kc ks cc nL RX0 D (ty0 kd) Γ (w0 ad kd σ) pc lv (.ref (ad 0) :: st) := g_get in_X0 0 rfl rfl 0 (by decide) q32 rfl hd kk
theorem g0_f13 (hd : decode cc pc = .ok (.getfield 13, 3)) (kk : G l R kc ks cc nL RX0 D (ty0 kd) Γ (w0 ad kd σ) (pc + 3) lv (.ref (ad 2) :: st)) : G l R kc ks cc nL RX0 D (ty0 kd) Γ (w0 ad kd σ) pc lv (.ref (ad 0) :: st) := g_get in_X0 0 rfl rfl 1 (by decide) q33 rfl hd kk
theorem g0_f16 (hd : decode cc pc = .ok (.getfield 16, 3)) (kk : G l R kc ks cc nL RX0 D (ty0 kd) Γ (w0 ad kd σ) (pc + 3) lv (.ref (ad 3) :: st)) : G l R kc ks cc nL RX0 D (ty0 kd) Γ (w0 ad kd σ) pc lv (.ref (ad 0) :: st) := g_get in_X0 0 rfl rfl 2 (by decide) q34 rfl hd kk
theorem g0_f19 (hd : decode cc pc = .ok (.getfield 19, 3)) (kk : G l R kc ks cc nL RX0 D (ty0 kd) Γ (w0 ad kd σ) (pc + 3) lv (.ref (ad 4) :: st)) : G l R kc ks cc nL RX0 D (ty0 kd) Γ (w0 ad kd σ) pc lv (.ref (ad 0) :: st) := g_get in_X0 0 rfl rfl 3 (by decide) q35 rfl hd kk
theorem g0_f50 (hd : decode cc pc = .ok (.getfield 50, 3)) (kk : G l R kc ks cc nL RX0 D (ty0 kd) Γ (w0 ad kd σ) (pc + 3) lv (.int (σ 9 0) :: st)) : G l R kc ks cc nL RX0 D (ty0 kd) Γ (w0 ad kd σ) pc lv (.ref (ad 0) :: st) := g_get in_X0 0 rfl rfl 4 (by decide) q36 rfl hd kk
theorem g0_f23 (hd : decode cc pc = .ok (.getfield 23, 3)) (kk : G l R kc ks cc nL RX0 D (ty0 kd) Γ (w0 ad kd σ) (pc + 3) lv (.ref (ad 5) :: st)) : G l R kc ks cc nL RX0 D (ty0 kd) Γ (w0 ad kd σ) pc lv (.ref (ad 0) :: st) := g_get in_X0 0 rfl rfl 5 (by decide) q37 rfl hd kk
theorem g0_f26 (hd : decode cc pc = .ok (.getfield 26, 3)) (kk : G l R kc ks cc nL RX0 D (ty0 kd) Γ (w0 ad kd σ) (pc + 3) lv (.ref (ad 6) :: st)) : G l R kc ks cc nL RX0 D (ty0 kd) Γ (w0 ad kd σ) pc lv (.ref (ad 0) :: st) := g_get in_X0 0 rfl rfl 6 (by decide) q38 rfl hd kk
theorem g0_f29 (hd : decode cc pc = .ok (.getfield 29, 3)) (kk : G l R kc ks cc nL RX0 D (ty0 kd) Γ (w0 ad kd σ) (pc + 3) lv (.ref (ad 7) :: st)) : G l R kc ks cc nL RX0 D (ty0 kd) Γ (w0 ad kd σ) pc lv (.ref (ad 0) :: st) := g_get in_X0 0 rfl rfl 7 (by decide) q39 rfl hd kk
theorem g0_f32 (hd : decode cc pc = .ok (.getfield 32, 3)) (kk : G l R kc ks cc nL RX0 D (ty0 kd) Γ (w0 ad kd σ) (pc + 3) lv (.ref (ad 8) :: st)) : G l R kc ks cc nL RX0 D (ty0 kd) Γ (w0 ad kd σ) pc lv (.ref (ad 0) :: st) := g_get in_X0 0 rfl rfl 8 (by decide) q40 rfl hd kk
theorem g1_f7 (hd : decode cc pc = .ok (.getfield 7, 3)) (kk : G l R kc ks cc nL RX1 D (ty1 kd) Γ (w1 ad kd σ) (pc + 3) lv (.ref (ad 1) :: st)) : G l R kc ks cc nL RX1 D (ty1 kd) Γ (w1 ad kd σ) pc lv (.ref (ad 0) :: st) := g_get in_X1 0 rfl rfl 0 (by decide) q158 rfl hd kk
theorem g1_f13 (hd : decode cc pc = .ok (.getfield 13, 3)) (kk : G l R kc ks cc nL RX1 D (ty1 kd) Γ (w1 ad kd σ) (pc + 3) lv (.ref (ad 2) :: st)) : G l R kc ks cc nL RX1 D (ty1 kd) Γ (w1 ad kd σ) pc lv (.ref (ad 0) :: st) := g_get in_X1 0 rfl rfl 1 (by decide) q159 rfl hd kk
theorem g1_f16 (hd : decode cc pc = .ok (.getfield 16, 3)) (kk : G l R kc ks cc nL RX1 D (ty1 kd) Γ (w1 ad kd σ) (pc + 3) lv (.ref (ad 3) :: st)) : G l R kc ks cc nL RX1 D (ty1 kd) Γ (w1 ad kd σ) pc lv (.ref (ad 0) :: st) := g_get in_X1 0 rfl rfl 2 (by decide) q160 rfl hd kk
theorem g1_f19 (hd : decode cc pc = .ok (.getfield 19, 3)) (kk : G l R kc ks cc nL RX1 D (ty1 kd) Γ (w1 ad kd σ) (pc + 3) lv (.ref (ad 4) :: st)) : G l R kc ks cc nL RX1 D (ty1 kd) Γ (w1 ad kd σ) pc lv (.ref (ad 0) :: st) := g_get in_X1 0 rfl rfl 3 (by decide) q161 rfl hd kk
theorem g1_f22 (hd : decode cc pc = .ok (.getfield 22, 3)) (kk : G l R kc ks cc nL RX1 D (ty1 kd) Γ (w1 ad kd σ) (pc + 3) lv (.ref (ad 5) :: st)) : G l R kc ks cc nL RX1 D (ty1 kd) Γ (w1 ad kd σ) pc lv (.ref (ad 0) :: st) := g_get in_X1 0 rfl rfl 4 (by decide) q162 rfl hd kk
theorem g1_f25 (hd : decode cc pc = .ok (.getfield 25, 3)) (kk : G l R kc ks cc nL RX1 D (ty1 kd) Γ (w1 ad kd σ) (pc + 3) lv (.ref (ad 6) :: st)) : G l R kc ks cc nL RX1 D (ty1 kd) Γ (w1 ad kd σ) pc lv (.ref (ad 0) :: st) := g_get in_X1 0 rfl rfl 5 (by decide) q163 rfl hd kk
theorem g0_p50 {x : Int32} (hd : decode cc pc = .ok (.putfield 50, 3)) (kk : G l R kc ks cc nL RX0 D (ty0 kd) Γ (w0 ad kd (sf σ 9 (fun _ => x))) (pc + 3) lv st) : G l R kc ks cc nL RX0 D (ty0 kd) Γ (w0 ad kd σ) pc lv (.int x :: .ref (ad 0) :: st) := g_put (ty := .int) in_X0 tyX0_ok nmX0 0 rfl rfl 4 (by decide) q36 rfl (by decide +kernel) rfl rfl (Nat.le_of_ble_eq_true rfl) hd rfl kk
theorem g0_ld1 {j : Nat} (hd : decode cc pc = .ok (.baload, 1)) (hj : j < 3) (kk : G l R kc ks cc nL RX0 D (ty0 kd) Γ (w0 ad kd σ) (pc + 1) lv (.int (σ 1 j) :: st)) : G l R kc ks cc nL RX0 D (ty0 kd) Γ (w0 ad kd σ) pc lv (.int (nI j) :: .ref (ad 1) :: st) := g_bald 1 0 rfl rfl hd (by decide) hj kk
theorem g0_st1 {j : Nat} {x y : Int32} (hd : decode cc pc = .ok (.bastore, 1)) (hj : j < 3) (hy : vp_nar .byte x = y) (kk : G l R kc ks cc nL RX0 D (ty0 kd) Γ (w0 ad kd (sf σ 1 (upd (σ 1) j y))) (pc + 1) lv st) : G l R kc ks cc nL RX0 D (ty0 kd) Γ (w0 ad kd σ) pc lv (.int x :: .int (nI j) :: .ref (ad 1) :: st) := g_bast 1 0 rfl rfl hd (by decide) rfl hj hy kk
theorem g0_ld2 {j : Nat} (hd : decode cc pc = .ok (.baload, 1)) (hj : j < 30) (kk : G l R kc ks cc nL RX0 D (ty0 kd) Γ (w0 ad kd σ) (pc + 1) lv (.int (σ 2 j) :: st)) : G l R kc ks cc nL RX0 D (ty0 kd) Γ (w0 ad kd σ) pc lv (.int (nI j) :: .ref (ad 2) :: st) := g_bald 2 1 rfl rfl hd (by decide) hj kk
theorem g0_st2 {j : Nat} {x y : Int32} (hd : decode cc pc = .ok (.bastore, 1)) (hj : j < 30) (hy : vp_nar .byte x = y) (kk : G l R kc ks cc nL RX0 D (ty0 kd) Γ (w0 ad kd (sf σ 2 (upd (σ 2) j y))) (pc + 1) lv st) : G l R kc ks cc nL RX0 D (ty0 kd) Γ (w0 ad kd σ) pc lv (.int x :: .int (nI j) :: .ref (ad 2) :: st) := g_bast 2 1 rfl rfl hd (by decide) rfl hj hy kk
theorem g0_ld3 {j : Nat} (hd : decode cc pc = .ok (.baload, 1)) (hj : j < 30) (kk : G l R kc ks cc nL RX0 D (ty0 kd) Γ (w0 ad kd σ) (pc + 1) lv (.int (σ 3 j) :: st)) : G l R kc ks cc nL RX0 D (ty0 kd) Γ (w0 ad kd σ) pc lv (.int (nI j) :: .ref (ad 3) :: st) := g_bald 3 2 rfl rfl hd (by decide) hj kk
theorem g0_st3 {j : Nat} {x y : Int32} (hd : decode cc pc = .ok (.bastore, 1)) (hj : j < 30) (hy : vp_nar .byte x = y) (kk : G l R kc ks cc nL RX0 D (ty0 kd) Γ (w0 ad kd (sf σ 3 (upd (σ 3) j y))) (pc + 1) lv st) : G l R kc ks cc nL RX0 D (ty0 kd) Γ (w0 ad kd σ) pc lv (.int x :: .int (nI j) :: .ref (ad 3) :: st) := g_bast 3 2 rfl rfl hd (by decide) rfl hj hy kk
theorem g0_ld4 {j : Nat} (hd : decode cc pc = .ok (.iaload, 1)) (hj : j < 30) (kk : G l R kc ks cc nL RX0 D (ty0 kd) Γ (w0 ad kd σ) (pc + 1) lv (.int (σ 4 j) :: st)) : G l R kc ks cc nL RX0 D (ty0 kd) Γ (w0 ad kd σ) pc lv (.int (nI j) :: .ref (ad 4) :: st) := g_iald 4 3 rfl rfl hd (by decide) hj kk
theorem g0_st4 {j : Nat} {x : Int32} (hd : decode cc pc = .ok (.iastore, 1)) (hj : j < 30) (kk : G l R kc ks cc nL RX0 D (ty0 kd) Γ (w0 ad kd (sf σ 4 (upd (σ 4) j x))) (pc + 1) lv st) : G l R kc ks cc nL RX0 D (ty0 kd) Γ (w0 ad kd σ) pc lv (.int x :: .int (nI j) :: .ref (ad 4) :: st) := g_iast 4 3 rfl rfl hd (by decide) rfl hj kk
theorem g0_ld5 {j : Nat} (hd : decode cc pc = .ok (.baload, 1)) (hj : j < 18) (kk : G l R kc ks cc nL RX0 D (ty0 kd) Γ (w0 ad kd σ) (pc + 1) lv (.int (σ 5 j) :: st)) : G l R kc ks cc nL RX0 D (ty0 kd) Γ (w0 ad kd σ) pc lv (.int (nI j) :: .ref (ad 5) :: st) := g_bald 5 4 rfl rfl hd (by decide) hj kk
theorem g0_st5 {j : Nat} {x y : Int32} (hd : decode cc pc = .ok (.bastore, 1)) (hj : j < 18) (hy : vp_nar .byte x = y) (kk : G l R kc ks cc nL RX0 D (ty0 kd) Γ (w0 ad kd (sf σ 5 (upd (σ 5) j y))) (pc + 1) lv st) : G l R kc ks cc nL RX0 D (ty0 kd) Γ (w0 ad kd σ) pc lv (.int x :: .int (nI j) :: .ref (ad 5) :: st) := g_bast 5 4 rfl rfl hd (by decide) rfl hj hy kk
theorem g0_ld6 {j : Nat} (hd : decode cc pc = .ok (.iaload, 1)) (hj : j < 17) (kk : G l R kc ks cc nL RX0 D (ty0 kd) Γ (w0 ad kd σ) (pc + 1) lv (.int (σ 6 j) :: st)) : G l R kc ks cc nL RX0 D (ty0 kd) Γ (w0 ad kd σ) pc lv (.int (nI j) :: .ref (ad 6) :: st) := g_iald 6 5 rfl rfl hd (by decide) hj kk
theorem g0_st6 {j : Nat} {x : Int32} (hd : decode cc pc = .ok (.iastore, 1)) (hj : j < 17) (kk : G l R kc ks cc nL RX0 D (ty0 kd) Γ (w0 ad kd (sf σ 6 (upd (σ 6) j x))) (pc + 1) lv st) : G l R kc ks cc nL RX0 D (ty0 kd) Γ (w0 ad kd σ) pc lv (.int x :: .int (nI j) :: .ref (ad 6) :: st) := g_iast 6 5 rfl rfl hd (by decide) rfl hj kk
theorem g0_ld7 {j : Nat} (hd : decode cc pc = .ok (.iaload, 1)) (hj : j < 17) (kk : G l R kc ks cc nL RX0 D (ty0 kd) Γ (w0 ad kd σ) (pc + 1) lv (.int (σ 7 j) :: st)) : G l R kc ks cc nL RX0 D (ty0 kd) Γ (w0 ad kd σ) pc lv (.int (nI j) :: .ref (ad 7) :: st) := g_iald 7 6 rfl rfl hd (by decide) hj kk
theorem g0_st7 {j : Nat} {x : Int32} (hd : decode cc pc = .ok (.iastore, 1)) (hj : j < 17) (kk : G l R kc ks cc nL RX0 D (ty0 kd) Γ (w0 ad kd (sf σ 7 (upd (σ 7) j x))) (pc + 1) lv st) : G l R kc ks cc nL RX0 D (ty0 kd) Γ (w0 ad kd σ) pc lv (.int x :: .int (nI j) :: .ref (ad 7) :: st) := g_iast 7 6 rfl rfl hd (by decide) rfl hj kk
theorem g0_ld8 {j : Nat} (hd : decode cc pc = .ok (.iaload, 1)) (hj : j < 16) (kk : G l R kc ks cc nL RX0 D (ty0 kd) Γ (w0 ad kd σ) (pc + 1) lv (.int (σ 8 j) :: st)) : G l R kc ks cc nL RX0 D (ty0 kd) Γ (w0 ad kd σ) pc lv (.int (nI j) :: .ref (ad 8) :: st) := g_iald 8 7 rfl rfl hd (by decide) hj kk
theorem g0_st8 {j : Nat} {x : Int32} (hd : decode cc pc = .ok (.iastore, 1)) (hj : j < 16) (kk : G l R kc ks cc nL RX0 D (ty0 kd) Γ (w0 ad kd (sf σ 8 (upd (σ 8) j x))) (pc + 1) lv st) : G l R kc ks cc nL RX0 D (ty0 kd) Γ (w0 ad kd σ) pc lv (.int x :: .int (nI j) :: .ref (ad 8) :: st) := g_iast 8 7 rfl rfl hd (by decide) rfl hj kk
theorem g1_ld1 {j : Nat} (hd : decode cc pc = .ok (.iaload, 1)) (hj : j < 3) (kk : G l R kc ks cc nL RX1 D (ty1 kd) Γ (w1 ad kd σ) (pc + 1) lv (.int (σ 1 j) :: st)) : G l R kc ks cc nL RX1 D (ty1 kd) Γ (w1 ad kd σ) pc lv (.int (nI j) :: .ref (ad 1) :: st) := g_iald 1 0 rfl rfl hd (by decide) hj kk
theorem g1_st1 {j : Nat} {x : Int32} (hd : decode cc pc = .ok (.iastore, 1)) (hj : j < 3) (kk : G l R kc ks cc nL RX1 D (ty1 kd) Γ (w1 ad kd (sf σ 1 (upd (σ 1) j x))) (pc + 1) lv st) : G l R kc ks cc nL RX1 D (ty1 kd) Γ (w1 ad kd σ) pc lv (.int x :: .int (nI j) :: .ref (ad 1) :: st) := g_iast 1 0 rfl rfl hd (by decide) rfl hj kk
theorem g1_ld2 {j : Nat} (hd : decode cc pc = .ok (.iaload, 1)) (hj : j < 30) (kk : G l R kc ks cc nL RX1 D (ty1 kd) Γ (w1 ad kd σ) (pc + 1) lv (.int (σ 2 j) :: st)) : G l R kc ks cc nL RX1 D (ty1 kd) Γ (w1 ad kd σ) pc lv (.int (nI j) :: .ref (ad 2) :: st) := g_iald 2 1 rfl rfl hd (by decide) hj kk
theorem g1_st2 {j : Nat} {x : Int32} (hd : decode cc pc = .ok (.iastore, 1)) (hj : j < 30) (kk : G l R kc ks cc nL RX1 D (ty1 kd) Γ (w1 ad kd (sf σ 2 (upd (σ 2) j x))) (pc + 1) lv st) : G l R kc ks cc nL RX1 D (ty1 kd) Γ (w1 ad kd σ) pc lv (.int x :: .int (nI j) :: .ref (ad 2) :: st) := g_iast 2 1 rfl rfl hd (by decide) rfl hj kk
theorem g1_ld3 {j : Nat} (hd : decode cc pc = .ok (.iaload, 1)) (hj : j < 30) (kk : G l R kc ks cc nL RX1 D (ty1 kd) Γ (w1 ad kd σ) (pc + 1) lv (.int (σ 3 j) :: st)) : G l R kc ks cc nL RX1 D (ty1 kd) Γ (w1 ad kd σ) pc lv (.int (nI j) :: .ref (ad 3) :: st) := g_iald 3 2 rfl rfl hd (by decide) hj kk
theorem g1_st3 {j : Nat} {x : Int32} (hd : decode cc pc = .ok (.iastore, 1)) (hj : j < 30) (kk : G l R kc ks cc nL RX1 D (ty1 kd) Γ (w1 ad kd (sf σ 3 (upd (σ 3) j x))) (pc + 1) lv st) : G l R kc ks cc nL RX1 D (ty1 kd) Γ (w1 ad kd σ) pc lv (.int x :: .int (nI j) :: .ref (ad 3) :: st) := g_iast 3 2 rfl rfl hd (by decide) rfl hj kk
theorem g1_ld4 {j : Nat} (hd : decode cc pc = .ok (.iaload, 1)) (hj : j < 30) (kk : G l R kc ks cc nL RX1 D (ty1 kd) Γ (w1 ad kd σ) (pc + 1) lv (.int (σ 4 j) :: st)) : G l R kc ks cc nL RX1 D (ty1 kd) Γ (w1 ad kd σ) pc lv (.int (nI j) :: .ref (ad 4) :: st) := g_iald 4 3 rfl rfl hd (by decide) hj kk
theorem g1_st4 {j : Nat} {x : Int32} (hd : decode cc pc = .ok (.iastore, 1)) (hj : j < 30) (kk : G l R kc ks cc nL RX1 D (ty1 kd) Γ (w1 ad kd (sf σ 4 (upd (σ 4) j x))) (pc + 1) lv st) : G l R kc ks cc nL RX1 D (ty1 kd) Γ (w1 ad kd σ) pc lv (.int x :: .int (nI j) :: .ref (ad 4) :: st) := g_iast 4 3 rfl rfl hd (by decide) rfl hj kk
theorem g1_ld5 {j : Nat} (hd : decode cc pc = .ok (.iaload, 1)) (hj : j < 30) (kk : G l R kc ks cc nL RX1 D (ty1 kd) Γ (w1 ad kd σ) (pc + 1) lv (.int (σ 5 j) :: st)) : G l R kc ks cc nL RX1 D (ty1 kd) Γ (w1 ad kd σ) pc lv (.int (nI j) :: .ref (ad 5) :: st) := g_iald 5 4 rfl rfl hd (by decide) hj kk
theorem g1_st5 {j : Nat} {x : Int32} (hd : decode cc pc = .ok (.iastore, 1)) (hj : j < 30) (kk : G l R kc ks cc nL RX1 D (ty1 kd) Γ (w1 ad kd (sf σ 5 (upd (σ 5) j x))) (pc + 1) lv st) : G l R kc ks cc nL RX1 D (ty1 kd) Γ (w1 ad kd σ) pc lv (.int x :: .int (nI j) :: .ref (ad 5) :: st) := g_iast 5 4 rfl rfl hd (by decide) rfl hj kk
theorem g1_ld6 {j : Nat} (hd : decode cc pc = .ok (.baload, 1)) (hj : j < 256) (kk : G l R kc ks cc nL RX1 D (ty1 kd) Γ (w1 ad kd σ) (pc + 1) lv (.int (σ 6 j) :: st)) : G l R kc ks cc nL RX1 D (ty1 kd) Γ (w1 ad kd σ) pc lv (.int (nI j) :: .ref (ad 6) :: st) := g_zald 6 5 rfl rfl hd (by decide) hj kk
theorem g1_st6 {j : Nat} {x y : Int32} (hd : decode cc pc = .ok (.bastore, 1)) (hj : j < 256) (hy : vp_nar .boolean x = y) (kk : G l R kc ks cc nL RX1 D (ty1 kd) Γ (w1 ad kd (sf σ 6 (upd (σ 6) j y))) (pc + 1) lv st) : G l R kc ks cc nL RX1 D (ty1 kd) Γ (w1 ad kd σ) pc lv (.int x :: .int (nI j) :: .ref (ad 6) :: st) := g_zast 6 5 rfl rfl hd (by decide) rfl hj hy kk
theorem k0_35 {d d' : Nat} {x1 : Int32} {post : Int32 → gS → Prop} (hd : decode cc pc = .ok (.invokevirtual 35, 3)) (hC : Con l D (ty0 kd) (w0 ad kd) yX0_isSpan cX0_isSpan 4 .boolean (rmL d') [.ref (ad 0), .int x1] σ post) (hdd : d' < d) (hcat : (st.map fun v => v.category).sum ≤ 8) (kk : ∀ (r : Int32) (u : gS), post r u → G l (rmL d) 0 0 cc nL RX0 D (ty0 kd) Γ (w0 ad kd u) (pc + 3) lv (.int r :: st)) : G l (rmL d) 0 0 cc nL RX0 D (ty0 kd) Γ (w0 ad kd σ) pc lv (.int x1 :: .ref (ad 0) :: st) := g_call (n := 1) (ci := 0) (q0 := 0) hC (lw_V q66 q68 qs0 q22 q69) rfl rfl (by decide +kernel) ⟨hdd, by show 8 + (4 + 11) + 32 * d' ≤ 32 * d; omega⟩ rfl rfl rfl rfl hcat (Nat.zero_le _) (Nat.zero_le _) hd kk
theorem k0_39 {d d' : Nat} {x1 : Int32} {post : Int32 → gS → Prop} (hd : decode cc pc = .ok (.invokevirtual 39, 3)) (hC : Con l D (ty0 kd) (w0 ad kd) yX0_isLayer cX0_isLayer 2 .boolean (rmL d') [.ref (ad 0), .int x1] σ post) (hdd : d' < d) (hcat : (st.map fun v => v.category).sum ≤ 8) (kk : ∀ (r : Int32) (u : gS), post r u → G l (rmL d) 0 0 cc nL RX0 D (ty0 kd) Γ (w0 ad kd u) (pc + 3) lv (.int r :: st)) : G l (rmL d) 0 0 cc nL RX0 D (ty0 kd) Γ (w0 ad kd σ) pc lv (.int x1 :: .ref (ad 0) :: st) := g_call (n := 1) (ci := 0) (q0 := 0) hC (lw_V q78 q80 qs1 q22 q81) rfl rfl (by decide +kernel) ⟨hdd, by show 8 + (2 + 11) + 32 * d' ≤ 32 * d; omega⟩ rfl rfl rfl rfl hcat (Nat.zero_le _) (Nat.zero_le _) hd kk
theorem k0_42 {d d' : Nat} {x1 x2 : Int32} {post : Int32 → gS → Prop} (hd : decode cc pc = .ok (.invokevirtual 42, 3)) (hC : Con l D (ty0 kd) (w0 ad kd) yX0_rowsAt cX0_rowsAt 5 .int (rmL d') [.ref (ad 0), .int x1, .int x2] σ post) (hdd : d' < d) (hcat : (st.map fun v => v.category).sum ≤ 8) (kk : ∀ (r : Int32) (u : gS), post r u → G l (rmL d) 0 0 cc nL RX0 D (ty0 kd) Γ (w0 ad kd u) (pc + 3) lv (.int r :: st)) : G l (rmL d) 0 0 cc nL RX0 D (ty0 kd) Γ (w0 ad kd σ) pc lv (.int x2 :: .int x1 :: .ref (ad 0) :: st) := g_call (n := 2) (ci := 0) (q0 := 0) hC (lw_V q82 q84 qs2 q22 q85) rfl rfl (by decide +kernel) ⟨hdd, by show 8 + (5 + 11) + 32 * d' ≤ 32 * d; omega⟩ rfl rfl rfl rfl hcat (Nat.zero_le _) (Nat.zero_le _) hd kk
theorem k0_46 {d d' : Nat} {x1 x2 x3 : Int32} {post : gS → Prop} (hd : decode cc pc = .ok (.invokevirtual 46, 3)) (hC : ConV l D (ty0 kd) (w0 ad kd) yX0_sweep cX0_sweep 8 (rmL d') [.ref (ad 0), .int x1, .int x2, .int x3] σ post) (hdd : d' < d) (hcat : (st.map fun v => v.category).sum ≤ 8) (kk : ∀ (u : gS), post u → G l (rmL d) 0 0 cc nL RX0 D (ty0 kd) Γ (w0 ad kd u) (pc + 3) lv st) : G l (rmL d) 0 0 cc nL RX0 D (ty0 kd) Γ (w0 ad kd σ) pc lv (.int x3 :: .int x2 :: .int x1 :: .ref (ad 0) :: st) := g_callV (n := 3) (ci := 0) (q0 := 0) hC (lw_V q90 q92 qs3 q22 q93) rfl rfl (by decide +kernel) ⟨hdd, by show 8 + (8 + 11) + 32 * d' ≤ 32 * d; omega⟩ rfl rfl rfl rfl hcat (Nat.zero_le _) (Nat.zero_le _) hd kk
theorem k0_80 {d d' : Nat} {x1 : Int32} {post : Int32 → gS → Prop} (hd : decode cc pc = .ok (.invokevirtual 80, 3)) (hC : Con l D (ty0 kd) (w0 ad kd) yX0_linesOf cX0_linesOf 4 .int (rmL d') [.ref (ad 0), .int x1] σ post) (hdd : d' < d) (hcat : (st.map fun v => v.category).sum ≤ 8) (kk : ∀ (r : Int32) (u : gS), post r u → G l (rmL d) 0 0 cc nL RX0 D (ty0 kd) Γ (w0 ad kd u) (pc + 3) lv (.int r :: st)) : G l (rmL d) 0 0 cc nL RX0 D (ty0 kd) Γ (w0 ad kd σ) pc lv (.int x1 :: .ref (ad 0) :: st) := g_call (n := 1) (ci := 0) (q0 := 0) hC (lw_V q94 q96 qs4 q22 q97) rfl rfl (by decide +kernel) ⟨hdd, by show 8 + (4 + 11) + 32 * d' ≤ 32 * d; omega⟩ rfl rfl rfl rfl hcat (Nat.zero_le _) (Nat.zero_le _) hd kk
theorem k0_54 {d d' : Nat} {x1 : Int32} {post : Int32 → gS → Prop} (hd : decode cc pc = .ok (.invokevirtual 54, 3)) (hC : Con l D (ty0 kd) (w0 ad kd) yX0_widthOf cX0_widthOf 2 .int (rmL d') [.ref (ad 0), .int x1] σ post) (hdd : d' < d) (hcat : (st.map fun v => v.category).sum ≤ 8) (kk : ∀ (r : Int32) (u : gS), post r u → G l (rmL d) 0 0 cc nL RX0 D (ty0 kd) Γ (w0 ad kd u) (pc + 3) lv (.int r :: st)) : G l (rmL d) 0 0 cc nL RX0 D (ty0 kd) Γ (w0 ad kd σ) pc lv (.int x1 :: .ref (ad 0) :: st) := g_call (n := 1) (ci := 0) (q0 := 0) hC (lw_V q99 q101 qs5 q22 q102) rfl rfl (by decide +kernel) ⟨hdd, by show 8 + (2 + 11) + 32 * d' ≤ 32 * d; omega⟩ rfl rfl rfl rfl hcat (Nat.zero_le _) (Nat.zero_le _) hd kk
theorem k0_58 {d d' : Nat} {x1 : Int32} {post : Int32 → gS → Prop} (hd : decode cc pc = .ok (.invokevirtual 58, 3)) (hC : Con l D (ty0 kd) (w0 ad kd) yX0_bitsIn cX0_bitsIn 4 .int (rmL d') [.ref (ad 0), .int x1] σ post) (hdd : d' < d) (hcat : (st.map fun v => v.category).sum ≤ 8) (kk : ∀ (r : Int32) (u : gS), post r u → G l (rmL d) 0 0 cc nL RX0 D (ty0 kd) Γ (w0 ad kd u) (pc + 3) lv (.int r :: st)) : G l (rmL d) 0 0 cc nL RX0 D (ty0 kd) Γ (w0 ad kd σ) pc lv (.int x1 :: .ref (ad 0) :: st) := g_call (n := 1) (ci := 0) (q0 := 0) hC (lw_V q103 q105 qs6 q22 q106) rfl rfl (by decide +kernel) ⟨hdd, by show 8 + (4 + 11) + 32 * d' ≤ 32 * d; omega⟩ rfl rfl rfl rfl hcat (Nat.zero_le _) (Nat.zero_le _) hd kk
theorem k0_61 {d d' : Nat} {x1 x2 x3 : Int32} {post : Int32 → gS → Prop} (hd : decode cc pc = .ok (.invokevirtual 61, 3)) (hC : Con l D (ty0 kd) (w0 ad kd) yX0_shortRuns cX0_shortRuns 8 .int (rmL d') [.ref (ad 0), .int x1, .int x2, .int x3] σ post) (hdd : d' < d) (hcat : (st.map fun v => v.category).sum ≤ 8) (kk : ∀ (r : Int32) (u : gS), post r u → G l (rmL d) 0 0 cc nL RX0 D (ty0 kd) Γ (w0 ad kd u) (pc + 3) lv (.int r :: st)) : G l (rmL d) 0 0 cc nL RX0 D (ty0 kd) Γ (w0 ad kd σ) pc lv (.int x3 :: .int x2 :: .int x1 :: .ref (ad 0) :: st) := g_call (n := 3) (ci := 0) (q0 := 0) hC (lw_V q119 q121 qs7 q22 q122) rfl rfl (by decide +kernel) ⟨hdd, by show 8 + (8 + 11) + 32 * d' ≤ 32 * d; omega⟩ rfl rfl rfl rfl hcat (Nat.zero_le _) (Nat.zero_le _) hd kk
theorem k0_65 {d d' : Nat} {x1 x2 : Int32} {post : gS → Prop} (hd : decode cc pc = .ok (.invokevirtual 65, 3)) (hC : ConV l D (ty0 kd) (w0 ad kd) yX0_markShortRows cX0_markShortRows 5 (rmL d') [.ref (ad 0), .int x1, .int x2] σ post) (hdd : d' < d) (hcat : (st.map fun v => v.category).sum ≤ 8) (kk : ∀ (u : gS), post u → G l (rmL d) 0 0 cc nL RX0 D (ty0 kd) Γ (w0 ad kd u) (pc + 3) lv st) : G l (rmL d) 0 0 cc nL RX0 D (ty0 kd) Γ (w0 ad kd σ) pc lv (.int x2 :: .int x1 :: .ref (ad 0) :: st) := g_callV (n := 2) (ci := 0) (q0 := 0) hC (lw_V q123 q125 qs8 q22 q126) rfl rfl (by decide +kernel) ⟨hdd, by show 8 + (5 + 11) + 32 * d' ≤ 32 * d; omega⟩ rfl rfl rfl rfl hcat (Nat.zero_le _) (Nat.zero_le _) hd kk
theorem k0_84 {d d' : Nat} {x1 x2 x3 x4 : Int32} {post : Int32 → gS → Prop} (hd : decode cc pc = .ok (.invokevirtual 84, 3)) (hC : Con l D (ty0 kd) (w0 ad kd) yX0_markRun cX0_markRun 9 .int (rmL d') [.ref (ad 0), .int x1, .int x2, .int x3, .int x4] σ post) (hdd : d' < d) (hcat : (st.map fun v => v.category).sum ≤ 8) (kk : ∀ (r : Int32) (u : gS), post r u → G l (rmL d) 0 0 cc nL RX0 D (ty0 kd) Γ (w0 ad kd u) (pc + 3) lv (.int r :: st)) : G l (rmL d) 0 0 cc nL RX0 D (ty0 kd) Γ (w0 ad kd σ) pc lv (.int x4 :: .int x3 :: .int x2 :: .int x1 :: .ref (ad 0) :: st) := g_call (n := 4) (ci := 0) (q0 := 0) hC (lw_V q127 q129 qs9 q22 q130) rfl rfl (by decide +kernel) ⟨hdd, by show 8 + (9 + 11) + 32 * d' ≤ 32 * d; omega⟩ rfl rfl rfl rfl hcat (Nat.zero_le _) (Nat.zero_le _) hd kk
theorem k0_69 {d d' : Nat} {post : Int32 → gS → Prop} (hd : decode cc pc = .ok (.invokevirtual 69, 3)) (hC : Con l D (ty0 kd) (w0 ad kd) yX0_markedArea cX0_markedArea 3 .int (rmL d') [.ref (ad 0)] σ post) (hdd : d' < d) (hcat : (st.map fun v => v.category).sum ≤ 8) (kk : ∀ (r : Int32) (u : gS), post r u → G l (rmL d) 0 0 cc nL RX0 D (ty0 kd) Γ (w0 ad kd u) (pc + 3) lv (.int r :: st)) : G l (rmL d) 0 0 cc nL RX0 D (ty0 kd) Γ (w0 ad kd σ) pc lv (.ref (ad 0) :: st) := g_call (n := 0) (ci := 0) (q0 := 0) hC (lw_V q131 q133 qs10 q22 q134) rfl rfl (by decide +kernel) ⟨hdd, by show 8 + (3 + 11) + 32 * d' ≤ 32 * d; omega⟩ rfl rfl rfl rfl hcat (Nat.zero_le _) (Nat.zero_le _) hd kk
theorem k0_74 {d d' : Nat} {x1 : Int32} {post : Int32 → gS → Prop} (hd : decode cc pc = .ok (.invokevirtual 74, 3)) (hC : Con l D (ty0 kd) (w0 ad kd) yX0_isWithin cX0_isWithin 4 .boolean (rmL d') [.ref (ad 0), .int x1] σ post) (hdd : d' < d) (hcat : (st.map fun v => v.category).sum ≤ 8) (kk : ∀ (r : Int32) (u : gS), post r u → G l (rmL d) 0 0 cc nL RX0 D (ty0 kd) Γ (w0 ad kd u) (pc + 3) lv (.int r :: st)) : G l (rmL d) 0 0 cc nL RX0 D (ty0 kd) Γ (w0 ad kd σ) pc lv (.int x1 :: .ref (ad 0) :: st) := g_call (n := 1) (ci := 0) (q0 := 0) hC (lw_V q144 q146 qs11 q22 q147) rfl rfl (by decide +kernel) ⟨hdd, by show 8 + (4 + 11) + 32 * d' ≤ 32 * d; omega⟩ rfl rfl rfl rfl hcat (Nat.zero_le _) (Nat.zero_le _) hd kk
theorem k0_77 {d d' : Nat} {post : gS → Prop} (hd : decode cc pc = .ok (.invokevirtual 77, 3)) (hC : ConV l D (ty0 kd) (w0 ad kd) yX0_widen cX0_widen 4 (rmL d') [.ref (ad 0)] σ post) (hdd : d' < d) (hcat : (st.map fun v => v.category).sum ≤ 8) (kk : ∀ (u : gS), post u → G l (rmL d) 0 0 cc nL RX0 D (ty0 kd) Γ (w0 ad kd u) (pc + 3) lv st) : G l (rmL d) 0 0 cc nL RX0 D (ty0 kd) Γ (w0 ad kd σ) pc lv (.ref (ad 0) :: st) := g_callV (n := 0) (ci := 0) (q0 := 0) hC (lw_V q148 q150 qs12 q22 q151) rfl rfl (by decide +kernel) ⟨hdd, by show 8 + (4 + 11) + 32 * d' ≤ 32 * d; omega⟩ rfl rfl rfl rfl hcat (Nat.zero_le _) (Nat.zero_le _) hd kk
theorem k1_29 {d d' : Nat} {x1 : Int32} {post : Int32 → gS → Prop} (hd : decode cc pc = .ok (.invokevirtual 29, 3)) (hC : Con l D (ty1 kd) (w1 ad kd) yX1_isLayer cX1_isLayer 2 .boolean (rmL d') [.ref (ad 0), .int x1] σ post) (hdd : d' < d) (hcat : (st.map fun v => v.category).sum ≤ 8) (kk : ∀ (r : Int32) (u : gS), post r u → G l (rmL d) 0 0 cc nL RX1 D (ty1 kd) Γ (w1 ad kd u) (pc + 3) lv (.int r :: st)) : G l (rmL d) 0 0 cc nL RX1 D (ty1 kd) Γ (w1 ad kd σ) pc lv (.int x1 :: .ref (ad 0) :: st) := g_call (n := 1) (ci := 1) (q0 := 0) hC (lw_V q182 q184 qs13 q23 q185) rfl rfl (by decide +kernel) ⟨hdd, by show 8 + (2 + 11) + 32 * d' ≤ 32 * d; omega⟩ rfl rfl rfl rfl hcat (Nat.zero_le _) (Nat.zero_le _) hd kk
theorem k1_33 {d d' : Nat} {x1 x2 x3 : Int32} {post : Int32 → gS → Prop} (hd : decode cc pc = .ok (.invokevirtual 33, 3)) (hC : Con l D (ty1 kd) (w1 ad kd) yX1_has cX1_has 5 .boolean (rmL d') [.ref (ad 0), .int x1, .int x2, .int x3] σ post) (hdd : d' < d) (hcat : (st.map fun v => v.category).sum ≤ 8) (kk : ∀ (r : Int32) (u : gS), post r u → G l (rmL d) 0 0 cc nL RX1 D (ty1 kd) Γ (w1 ad kd u) (pc + 3) lv (.int r :: st)) : G l (rmL d) 0 0 cc nL RX1 D (ty1 kd) Γ (w1 ad kd σ) pc lv (.int x3 :: .int x2 :: .int x1 :: .ref (ad 0) :: st) := g_call (n := 3) (ci := 1) (q0 := 0) hC (lw_V q194 q196 qs14 q23 q197) rfl rfl (by decide +kernel) ⟨hdd, by show 8 + (5 + 11) + 32 * d' ≤ 32 * d; omega⟩ rfl rfl rfl rfl hcat (Nat.zero_le _) (Nat.zero_le _) hd kk
theorem k1_37 {d d' : Nat} {x1 x2 x3 : Int32} {post : Int32 → gS → Prop} (hd : decode cc pc = .ok (.invokevirtual 37, 3)) (hC : Con l D (ty1 kd) (w1 ad kd) yX1_combine cX1_combine 7 .boolean (rmL d') [.ref (ad 0), .int x1, .int x2, .int x3] σ post) (hdd : d' < d) (hcat : (st.map fun v => v.category).sum ≤ 8) (kk : ∀ (r : Int32) (u : gS), post r u → G l (rmL d) 0 0 cc nL RX1 D (ty1 kd) Γ (w1 ad kd u) (pc + 3) lv (.int r :: st)) : G l (rmL d) 0 0 cc nL RX1 D (ty1 kd) Γ (w1 ad kd σ) pc lv (.int x3 :: .int x2 :: .int x1 :: .ref (ad 0) :: st) := g_call (n := 3) (ci := 1) (q0 := 0) hC (lw_V q202 q204 qs15 q23 q205) rfl rfl (by decide +kernel) ⟨hdd, by show 8 + (7 + 11) + 32 * d' ≤ 32 * d; omega⟩ rfl rfl rfl rfl hcat (Nat.zero_le _) (Nat.zero_le _) hd kk
theorem k1_40 {d d' : Nat} {x1 x2 : Int32} {post : Int32 → gS → Prop} (hd : decode cc pc = .ok (.invokevirtual 40, 3)) (hC : Con l D (ty1 kd) (w1 ad kd) yX1_in cX1_in 3 .boolean (rmL d') [.ref (ad 0), .int x1, .int x2] σ post) (hdd : d' < d) (hcat : (st.map fun v => v.category).sum ≤ 8) (kk : ∀ (r : Int32) (u : gS), post r u → G l (rmL d) 0 0 cc nL RX1 D (ty1 kd) Γ (w1 ad kd u) (pc + 3) lv (.int r :: st)) : G l (rmL d) 0 0 cc nL RX1 D (ty1 kd) Γ (w1 ad kd σ) pc lv (.int x2 :: .int x1 :: .ref (ad 0) :: st) := g_call (n := 2) (ci := 1) (q0 := 0) hC (lw_V q210 q212 qs16 q23 q213) rfl rfl (by decide +kernel) ⟨hdd, by show 8 + (3 + 11) + 32 * d' ≤ 32 * d; omega⟩ rfl rfl rfl rfl hcat (Nat.zero_le _) (Nat.zero_le _) hd kk
theorem k1_44 {d d' : Nat} {x1 x2 x3 x4 x5 : Int32} {post : Int32 → gS → Prop} (hd : decode cc pc = .ok (.invokevirtual 44, 3)) (hC : Con l D (ty1 kd) (w1 ad kd) yX1_run cX1_run 10 .int (rmL d') [.ref (ad 0), .int x1, .int x2, .int x3, .int x4, .int x5] σ post) (hdd : d' < d) (hcat : (st.map fun v => v.category).sum ≤ 8) (kk : ∀ (r : Int32) (u : gS), post r u → G l (rmL d) 0 0 cc nL RX1 D (ty1 kd) Γ (w1 ad kd u) (pc + 3) lv (.int r :: st)) : G l (rmL d) 0 0 cc nL RX1 D (ty1 kd) Γ (w1 ad kd σ) pc lv (.int x5 :: .int x4 :: .int x3 :: .int x2 :: .int x1 :: .ref (ad 0) :: st) := g_call (n := 5) (ci := 1) (q0 := 0) hC (lw_V q222 q224 qs17 q23 q225) rfl rfl (by decide +kernel) ⟨hdd, by show 8 + (10 + 11) + 32 * d' ≤ 32 * d; omega⟩ rfl rfl rfl rfl hcat (Nat.zero_le _) (Nat.zero_le _) hd kk
theorem k1_48 {d d' : Nat} {x1 x2 x3 x4 x5 : Int32} {post : Int32 → gS → Prop} (hd : decode cc pc = .ok (.invokevirtual 48, 3)) (hC : Con l D (ty1 kd) (w1 ad kd) yX1_between cX1_between 8 .boolean (rmL d') [.ref (ad 0), .int x1, .int x2, .int x3, .int x4, .int x5] σ post) (hdd : d' < d) (hcat : (st.map fun v => v.category).sum ≤ 8) (kk : ∀ (r : Int32) (u : gS), post r u → G l (rmL d) 0 0 cc nL RX1 D (ty1 kd) Γ (w1 ad kd u) (pc + 3) lv (.int r :: st)) : G l (rmL d) 0 0 cc nL RX1 D (ty1 kd) Γ (w1 ad kd σ) pc lv (.int x5 :: .int x4 :: .int x3 :: .int x2 :: .int x1 :: .ref (ad 0) :: st) := g_call (n := 5) (ci := 1) (q0 := 0) hC (lw_V q230 q232 qs18 q23 q233) rfl rfl (by decide +kernel) ⟨hdd, by show 8 + (8 + 11) + 32 * d' ≤ 32 * d; omega⟩ rfl rfl rfl rfl hcat (Nat.zero_le _) (Nat.zero_le _) hd kk
theorem k1_55 {d d' : Nat} {x1 x2 : Int32} {post : Int32 → gS → Prop} (hd : decode cc pc = .ok (.invokevirtual 55, 3)) (hC : Con l D (ty1 kd) (w1 ad kd) yX1_encloses cX1_encloses 4 .boolean (rmL d') [.ref (ad 0), .int x1, .int x2] σ post) (hdd : d' < d) (hcat : (st.map fun v => v.category).sum ≤ 8) (kk : ∀ (r : Int32) (u : gS), post r u → G l (rmL d) 0 0 cc nL RX1 D (ty1 kd) Γ (w1 ad kd u) (pc + 3) lv (.int r :: st)) : G l (rmL d) 0 0 cc nL RX1 D (ty1 kd) Γ (w1 ad kd σ) pc lv (.int x2 :: .int x1 :: .ref (ad 0) :: st) := g_call (n := 2) (ci := 1) (q0 := 0) hC (lw_V q238 q240 qs19 q23 q241) rfl rfl (by decide +kernel) ⟨hdd, by show 8 + (4 + 11) + 32 * d' ≤ 32 * d; omega⟩ rfl rfl rfl rfl hcat (Nat.zero_le _) (Nat.zero_le _) hd kk
theorem k1_52 {d d' : Nat} {x1 x2 x3 : Int32} {post : Int32 → gS → Prop} (hd : decode cc pc = .ok (.invokevirtual 52, 3)) (hC : Con l D (ty1 kd) (w1 ad kd) yX1_around cX1_around 6 .boolean (rmL d') [.ref (ad 0), .int x1, .int x2, .int x3] σ post) (hdd : d' < d) (hcat : (st.map fun v => v.category).sum ≤ 8) (kk : ∀ (r : Int32) (u : gS), post r u → G l (rmL d) 0 0 cc nL RX1 D (ty1 kd) Γ (w1 ad kd u) (pc + 3) lv (.int r :: st)) : G l (rmL d) 0 0 cc nL RX1 D (ty1 kd) Γ (w1 ad kd σ) pc lv (.int x3 :: .int x2 :: .int x1 :: .ref (ad 0) :: st) := g_call (n := 3) (ci := 1) (q0 := 0) hC (lw_V q242 q244 qs20 q23 q245) rfl rfl (by decide +kernel) ⟨hdd, by show 8 + (6 + 11) + 32 * d' ≤ 32 * d; omega⟩ rfl rfl rfl rfl hcat (Nat.zero_le _) (Nat.zero_le _) hd kk
end GW
abbrev C0_add (d : Nat) (l : Launch) (D : va_G) (ad : Nat → Nat) (kd : Nat → ClassId) (av : List Value) (σ : gS) (post : Int32 → gS → Prop) : Prop := Con l D (ty0 kd) (w0 ad kd) yX0_add cX0_add 5 .int (rmL d) (.ref (ad 0) :: av) σ post
abbrev J0_add (d : Nat) (l : Launch) (D : va_G) (ad : Nat → Nat) (kd : Nat → ClassId) (av : List Value) (σ0 : gS) (sz : Nat) (post : Int32 → gS → Prop) (σ : gS) (pc : Nat) (lv : List (Option Value)) (st : List Value) : Prop := G l (rmL d) 0 0 cX0_add 5 RX0 D (ty0 kd) (gI .int (.ref (ad 0) :: av).toArray D (ty0 kd) (w0 ad kd) σ0 sz post) (w0 ad kd σ) pc lv st
abbrev C0_isSpan (d : Nat) (l : Launch) (D : va_G) (ad : Nat → Nat) (kd : Nat → ClassId) (av : List Value) (σ : gS) (post : Int32 → gS → Prop) : Prop := Con l D (ty0 kd) (w0 ad kd) yX0_isSpan cX0_isSpan 4 .boolean (rmL d) (.ref (ad 0) :: av) σ post
abbrev J0_isSpan (d : Nat) (l : Launch) (D : va_G) (ad : Nat → Nat) (kd : Nat → ClassId) (av : List Value) (σ0 : gS) (sz : Nat) (post : Int32 → gS → Prop) (σ : gS) (pc : Nat) (lv : List (Option Value)) (st : List Value) : Prop := G l (rmL d) 0 0 cX0_isSpan 4 RX0 D (ty0 kd) (gI .boolean (.ref (ad 0) :: av).toArray D (ty0 kd) (w0 ad kd) σ0 sz post) (w0 ad kd σ) pc lv st
abbrev C0_drop (d : Nat) (l : Launch) (D : va_G) (ad : Nat → Nat) (kd : Nat → ClassId) (av : List Value) (σ : gS) (post : Int32 → gS → Prop) : Prop := Con l D (ty0 kd) (w0 ad kd) yX0_drop cX0_drop 3 .int (rmL d) (.ref (ad 0) :: av) σ post
abbrev J0_drop (d : Nat) (l : Launch) (D : va_G) (ad : Nat → Nat) (kd : Nat → ClassId) (av : List Value) (σ0 : gS) (sz : Nat) (post : Int32 → gS → Prop) (σ : gS) (pc : Nat) (lv : List (Option Value)) (st : List Value) : Prop := G l (rmL d) 0 0 cX0_drop 3 RX0 D (ty0 kd) (gI .int (.ref (ad 0) :: av).toArray D (ty0 kd) (w0 ad kd) σ0 sz post) (w0 ad kd σ) pc lv st
abbrev C0_covers (d : Nat) (l : Launch) (D : va_G) (ad : Nat → Nat) (kd : Nat → ClassId) (av : List Value) (σ : gS) (post : Int32 → gS → Prop) : Prop := Con l D (ty0 kd) (w0 ad kd) yX0_covers cX0_covers 4 .boolean (rmL d) (.ref (ad 0) :: av) σ post
abbrev J0_covers (d : Nat) (l : Launch) (D : va_G) (ad : Nat → Nat) (kd : Nat → ClassId) (av : List Value) (σ0 : gS) (sz : Nat) (post : Int32 → gS → Prop) (σ : gS) (pc : Nat) (lv : List (Option Value)) (st : List Value) : Prop := G l (rmL d) 0 0 cX0_covers 4 RX0 D (ty0 kd) (gI .boolean (.ref (ad 0) :: av).toArray D (ty0 kd) (w0 ad kd) σ0 sz post) (w0 ad kd σ) pc lv st
abbrev C0_isLayer (d : Nat) (l : Launch) (D : va_G) (ad : Nat → Nat) (kd : Nat → ClassId) (av : List Value) (σ : gS) (post : Int32 → gS → Prop) : Prop := Con l D (ty0 kd) (w0 ad kd) yX0_isLayer cX0_isLayer 2 .boolean (rmL d) (.ref (ad 0) :: av) σ post
abbrev J0_isLayer (d : Nat) (l : Launch) (D : va_G) (ad : Nat → Nat) (kd : Nat → ClassId) (av : List Value) (σ0 : gS) (sz : Nat) (post : Int32 → gS → Prop) (σ : gS) (pc : Nat) (lv : List (Option Value)) (st : List Value) : Prop := G l (rmL d) 0 0 cX0_isLayer 2 RX0 D (ty0 kd) (gI .boolean (.ref (ad 0) :: av).toArray D (ty0 kd) (w0 ad kd) σ0 sz post) (w0 ad kd σ) pc lv st
abbrev C0_rowsAt (d : Nat) (l : Launch) (D : va_G) (ad : Nat → Nat) (kd : Nat → ClassId) (av : List Value) (σ : gS) (post : Int32 → gS → Prop) : Prop := Con l D (ty0 kd) (w0 ad kd) yX0_rowsAt cX0_rowsAt 5 .int (rmL d) (.ref (ad 0) :: av) σ post
abbrev J0_rowsAt (d : Nat) (l : Launch) (D : va_G) (ad : Nat → Nat) (kd : Nat → ClassId) (av : List Value) (σ0 : gS) (sz : Nat) (post : Int32 → gS → Prop) (σ : gS) (pc : Nat) (lv : List (Option Value)) (st : List Value) : Prop := G l (rmL d) 0 0 cX0_rowsAt 5 RX0 D (ty0 kd) (gI .int (.ref (ad 0) :: av).toArray D (ty0 kd) (w0 ad kd) σ0 sz post) (w0 ad kd σ) pc lv st
abbrev C0_area (d : Nat) (l : Launch) (D : va_G) (ad : Nat → Nat) (kd : Nat → ClassId) (av : List Value) (σ : gS) (post : Int32 → gS → Prop) : Prop := Con l D (ty0 kd) (w0 ad kd) yX0_area cX0_area 6 .int (rmL d) (.ref (ad 0) :: av) σ post
abbrev J0_area (d : Nat) (l : Launch) (D : va_G) (ad : Nat → Nat) (kd : Nat → ClassId) (av : List Value) (σ0 : gS) (sz : Nat) (post : Int32 → gS → Prop) (σ : gS) (pc : Nat) (lv : List (Option Value)) (st : List Value) : Prop := G l (rmL d) 0 0 cX0_area 6 RX0 D (ty0 kd) (gI .int (.ref (ad 0) :: av).toArray D (ty0 kd) (w0 ad kd) σ0 sz post) (w0 ad kd σ) pc lv st
abbrev C0_sweep (d : Nat) (l : Launch) (D : va_G) (ad : Nat → Nat) (kd : Nat → ClassId) (av : List Value) (σ : gS) (post : gS → Prop) : Prop := ConV l D (ty0 kd) (w0 ad kd) yX0_sweep cX0_sweep 8 (rmL d) (.ref (ad 0) :: av) σ post
abbrev J0_sweep (d : Nat) (l : Launch) (D : va_G) (ad : Nat → Nat) (kd : Nat → ClassId) (av : List Value) (σ0 : gS) (sz : Nat) (post : gS → Prop) (σ : gS) (pc : Nat) (lv : List (Option Value)) (st : List Value) : Prop := G l (rmL d) 0 0 cX0_sweep 8 RX0 D (ty0 kd) (gV (.ref (ad 0) :: av).toArray D (ty0 kd) (w0 ad kd) σ0 sz post) (w0 ad kd σ) pc lv st
abbrev C0_linesOf (d : Nat) (l : Launch) (D : va_G) (ad : Nat → Nat) (kd : Nat → ClassId) (av : List Value) (σ : gS) (post : Int32 → gS → Prop) : Prop := Con l D (ty0 kd) (w0 ad kd) yX0_linesOf cX0_linesOf 4 .int (rmL d) (.ref (ad 0) :: av) σ post
abbrev J0_linesOf (d : Nat) (l : Launch) (D : va_G) (ad : Nat → Nat) (kd : Nat → ClassId) (av : List Value) (σ0 : gS) (sz : Nat) (post : Int32 → gS → Prop) (σ : gS) (pc : Nat) (lv : List (Option Value)) (st : List Value) : Prop := G l (rmL d) 0 0 cX0_linesOf 4 RX0 D (ty0 kd) (gI .int (.ref (ad 0) :: av).toArray D (ty0 kd) (w0 ad kd) σ0 sz post) (w0 ad kd σ) pc lv st
abbrev C0_widthOf (d : Nat) (l : Launch) (D : va_G) (ad : Nat → Nat) (kd : Nat → ClassId) (av : List Value) (σ : gS) (post : Int32 → gS → Prop) : Prop := Con l D (ty0 kd) (w0 ad kd) yX0_widthOf cX0_widthOf 2 .int (rmL d) (.ref (ad 0) :: av) σ post
abbrev J0_widthOf (d : Nat) (l : Launch) (D : va_G) (ad : Nat → Nat) (kd : Nat → ClassId) (av : List Value) (σ0 : gS) (sz : Nat) (post : Int32 → gS → Prop) (σ : gS) (pc : Nat) (lv : List (Option Value)) (st : List Value) : Prop := G l (rmL d) 0 0 cX0_widthOf 2 RX0 D (ty0 kd) (gI .int (.ref (ad 0) :: av).toArray D (ty0 kd) (w0 ad kd) σ0 sz post) (w0 ad kd σ) pc lv st
abbrev C0_bitsIn (d : Nat) (l : Launch) (D : va_G) (ad : Nat → Nat) (kd : Nat → ClassId) (av : List Value) (σ : gS) (post : Int32 → gS → Prop) : Prop := Con l D (ty0 kd) (w0 ad kd) yX0_bitsIn cX0_bitsIn 4 .int (rmL d) (.ref (ad 0) :: av) σ post
abbrev J0_bitsIn (d : Nat) (l : Launch) (D : va_G) (ad : Nat → Nat) (kd : Nat → ClassId) (av : List Value) (σ0 : gS) (sz : Nat) (post : Int32 → gS → Prop) (σ : gS) (pc : Nat) (lv : List (Option Value)) (st : List Value) : Prop := G l (rmL d) 0 0 cX0_bitsIn 4 RX0 D (ty0 kd) (gI .int (.ref (ad 0) :: av).toArray D (ty0 kd) (w0 ad kd) σ0 sz post) (w0 ad kd σ) pc lv st
abbrev C0_outline (d : Nat) (l : Launch) (D : va_G) (ad : Nat → Nat) (kd : Nat → ClassId) (av : List Value) (σ : gS) (post : Int32 → gS → Prop) : Prop := Con l D (ty0 kd) (w0 ad kd) yX0_outline cX0_outline 7 .int (rmL d) (.ref (ad 0) :: av) σ post
abbrev J0_outline (d : Nat) (l : Launch) (D : va_G) (ad : Nat → Nat) (kd : Nat → ClassId) (av : List Value) (σ0 : gS) (sz : Nat) (post : Int32 → gS → Prop) (σ : gS) (pc : Nat) (lv : List (Option Value)) (st : List Value) : Prop := G l (rmL d) 0 0 cX0_outline 7 RX0 D (ty0 kd) (gI .int (.ref (ad 0) :: av).toArray D (ty0 kd) (w0 ad kd) σ0 sz post) (w0 ad kd σ) pc lv st
abbrev C0_corners (d : Nat) (l : Launch) (D : va_G) (ad : Nat → Nat) (kd : Nat → ClassId) (av : List Value) (σ : gS) (post : Int32 → gS → Prop) : Prop := Con l D (ty0 kd) (w0 ad kd) yX0_corners cX0_corners 11 .int (rmL d) (.ref (ad 0) :: av) σ post
abbrev J0_corners (d : Nat) (l : Launch) (D : va_G) (ad : Nat → Nat) (kd : Nat → ClassId) (av : List Value) (σ0 : gS) (sz : Nat) (post : Int32 → gS → Prop) (σ : gS) (pc : Nat) (lv : List (Option Value)) (st : List Value) : Prop := G l (rmL d) 0 0 cX0_corners 11 RX0 D (ty0 kd) (gI .int (.ref (ad 0) :: av).toArray D (ty0 kd) (w0 ad kd) σ0 sz post) (w0 ad kd σ) pc lv st
abbrev C0_thin (d : Nat) (l : Launch) (D : va_G) (ad : Nat → Nat) (kd : Nat → ClassId) (av : List Value) (σ : gS) (post : Int32 → gS → Prop) : Prop := Con l D (ty0 kd) (w0 ad kd) yX0_thin cX0_thin 4 .int (rmL d) (.ref (ad 0) :: av) σ post
abbrev J0_thin (d : Nat) (l : Launch) (D : va_G) (ad : Nat → Nat) (kd : Nat → ClassId) (av : List Value) (σ0 : gS) (sz : Nat) (post : Int32 → gS → Prop) (σ : gS) (pc : Nat) (lv : List (Option Value)) (st : List Value) : Prop := G l (rmL d) 0 0 cX0_thin 4 RX0 D (ty0 kd) (gI .int (.ref (ad 0) :: av).toArray D (ty0 kd) (w0 ad kd) σ0 sz post) (w0 ad kd σ) pc lv st
abbrev C0_shortRuns (d : Nat) (l : Launch) (D : va_G) (ad : Nat → Nat) (kd : Nat → ClassId) (av : List Value) (σ : gS) (post : Int32 → gS → Prop) : Prop := Con l D (ty0 kd) (w0 ad kd) yX0_shortRuns cX0_shortRuns 8 .int (rmL d) (.ref (ad 0) :: av) σ post
abbrev J0_shortRuns (d : Nat) (l : Launch) (D : va_G) (ad : Nat → Nat) (kd : Nat → ClassId) (av : List Value) (σ0 : gS) (sz : Nat) (post : Int32 → gS → Prop) (σ : gS) (pc : Nat) (lv : List (Option Value)) (st : List Value) : Prop := G l (rmL d) 0 0 cX0_shortRuns 8 RX0 D (ty0 kd) (gI .int (.ref (ad 0) :: av).toArray D (ty0 kd) (w0 ad kd) σ0 sz post) (w0 ad kd σ) pc lv st
abbrev C0_markShortRows (d : Nat) (l : Launch) (D : va_G) (ad : Nat → Nat) (kd : Nat → ClassId) (av : List Value) (σ : gS) (post : gS → Prop) : Prop := ConV l D (ty0 kd) (w0 ad kd) yX0_markShortRows cX0_markShortRows 5 (rmL d) (.ref (ad 0) :: av) σ post
abbrev J0_markShortRows (d : Nat) (l : Launch) (D : va_G) (ad : Nat → Nat) (kd : Nat → ClassId) (av : List Value) (σ0 : gS) (sz : Nat) (post : gS → Prop) (σ : gS) (pc : Nat) (lv : List (Option Value)) (st : List Value) : Prop := G l (rmL d) 0 0 cX0_markShortRows 5 RX0 D (ty0 kd) (gV (.ref (ad 0) :: av).toArray D (ty0 kd) (w0 ad kd) σ0 sz post) (w0 ad kd σ) pc lv st
abbrev C0_markRun (d : Nat) (l : Launch) (D : va_G) (ad : Nat → Nat) (kd : Nat → ClassId) (av : List Value) (σ : gS) (post : Int32 → gS → Prop) : Prop := Con l D (ty0 kd) (w0 ad kd) yX0_markRun cX0_markRun 9 .int (rmL d) (.ref (ad 0) :: av) σ post
abbrev J0_markRun (d : Nat) (l : Launch) (D : va_G) (ad : Nat → Nat) (kd : Nat → ClassId) (av : List Value) (σ0 : gS) (sz : Nat) (post : Int32 → gS → Prop) (σ : gS) (pc : Nat) (lv : List (Option Value)) (st : List Value) : Prop := G l (rmL d) 0 0 cX0_markRun 9 RX0 D (ty0 kd) (gI .int (.ref (ad 0) :: av).toArray D (ty0 kd) (w0 ad kd) σ0 sz post) (w0 ad kd σ) pc lv st
abbrev C0_markedArea (d : Nat) (l : Launch) (D : va_G) (ad : Nat → Nat) (kd : Nat → ClassId) (av : List Value) (σ : gS) (post : Int32 → gS → Prop) : Prop := Con l D (ty0 kd) (w0 ad kd) yX0_markedArea cX0_markedArea 3 .int (rmL d) (.ref (ad 0) :: av) σ post
abbrev J0_markedArea (d : Nat) (l : Launch) (D : va_G) (ad : Nat → Nat) (kd : Nat → ClassId) (av : List Value) (σ0 : gS) (sz : Nat) (post : Int32 → gS → Prop) (σ : gS) (pc : Nat) (lv : List (Option Value)) (st : List Value) : Prop := G l (rmL d) 0 0 cX0_markedArea 3 RX0 D (ty0 kd) (gI .int (.ref (ad 0) :: av).toArray D (ty0 kd) (w0 ad kd) σ0 sz post) (w0 ad kd σ) pc lv st
abbrev C0_gaps (d : Nat) (l : Launch) (D : va_G) (ad : Nat → Nat) (kd : Nat → ClassId) (av : List Value) (σ : gS) (post : Int32 → gS → Prop) : Prop := Con l D (ty0 kd) (w0 ad kd) yX0_gaps cX0_gaps 4 .int (rmL d) (.ref (ad 0) :: av) σ post
abbrev J0_gaps (d : Nat) (l : Launch) (D : va_G) (ad : Nat → Nat) (kd : Nat → ClassId) (av : List Value) (σ0 : gS) (sz : Nat) (post : Int32 → gS → Prop) (σ : gS) (pc : Nat) (lv : List (Option Value)) (st : List Value) : Prop := G l (rmL d) 0 0 cX0_gaps 4 RX0 D (ty0 kd) (gI .int (.ref (ad 0) :: av).toArray D (ty0 kd) (w0 ad kd) σ0 sz post) (w0 ad kd σ) pc lv st
abbrev C0_enclosure (d : Nat) (l : Launch) (D : va_G) (ad : Nat → Nat) (kd : Nat → ClassId) (av : List Value) (σ : gS) (post : Int32 → gS → Prop) : Prop := Con l D (ty0 kd) (w0 ad kd) yX0_enclosure cX0_enclosure 4 .int (rmL d) (.ref (ad 0) :: av) σ post
abbrev J0_enclosure (d : Nat) (l : Launch) (D : va_G) (ad : Nat → Nat) (kd : Nat → ClassId) (av : List Value) (σ0 : gS) (sz : Nat) (post : Int32 → gS → Prop) (σ : gS) (pc : Nat) (lv : List (Option Value)) (st : List Value) : Prop := G l (rmL d) 0 0 cX0_enclosure 4 RX0 D (ty0 kd) (gI .int (.ref (ad 0) :: av).toArray D (ty0 kd) (w0 ad kd) σ0 sz post) (w0 ad kd σ) pc lv st
abbrev C0_isWithin (d : Nat) (l : Launch) (D : va_G) (ad : Nat → Nat) (kd : Nat → ClassId) (av : List Value) (σ : gS) (post : Int32 → gS → Prop) : Prop := Con l D (ty0 kd) (w0 ad kd) yX0_isWithin cX0_isWithin 4 .boolean (rmL d) (.ref (ad 0) :: av) σ post
abbrev J0_isWithin (d : Nat) (l : Launch) (D : va_G) (ad : Nat → Nat) (kd : Nat → ClassId) (av : List Value) (σ0 : gS) (sz : Nat) (post : Int32 → gS → Prop) (σ : gS) (pc : Nat) (lv : List (Option Value)) (st : List Value) : Prop := G l (rmL d) 0 0 cX0_isWithin 4 RX0 D (ty0 kd) (gI .boolean (.ref (ad 0) :: av).toArray D (ty0 kd) (w0 ad kd) σ0 sz post) (w0 ad kd σ) pc lv st
abbrev C0_widen (d : Nat) (l : Launch) (D : va_G) (ad : Nat → Nat) (kd : Nat → ClassId) (av : List Value) (σ : gS) (post : gS → Prop) : Prop := ConV l D (ty0 kd) (w0 ad kd) yX0_widen cX0_widen 4 (rmL d) (.ref (ad 0) :: av) σ post
abbrev J0_widen (d : Nat) (l : Launch) (D : va_G) (ad : Nat → Nat) (kd : Nat → ClassId) (av : List Value) (σ0 : gS) (sz : Nat) (post : gS → Prop) (σ : gS) (pc : Nat) (lv : List (Option Value)) (st : List Value) : Prop := G l (rmL d) 0 0 cX0_widen 4 RX0 D (ty0 kd) (gV (.ref (ad 0) :: av).toArray D (ty0 kd) (w0 ad kd) σ0 sz post) (w0 ad kd σ) pc lv st
abbrev C1_add (d : Nat) (l : Launch) (D : va_G) (ad : Nat → Nat) (kd : Nat → ClassId) (av : List Value) (σ : gS) (post : Int32 → gS → Prop) : Prop := Con l D (ty1 kd) (w1 ad kd) yX1_add cX1_add 5 .int (rmL d) (.ref (ad 0) :: av) σ post
abbrev J1_add (d : Nat) (l : Launch) (D : va_G) (ad : Nat → Nat) (kd : Nat → ClassId) (av : List Value) (σ0 : gS) (sz : Nat) (post : Int32 → gS → Prop) (σ : gS) (pc : Nat) (lv : List (Option Value)) (st : List Value) : Prop := G l (rmL d) 0 0 cX1_add 5 RX1 D (ty1 kd) (gI .int (.ref (ad 0) :: av).toArray D (ty1 kd) (w1 ad kd) σ0 sz post) (w1 ad kd σ) pc lv st
abbrev C1_isLayer (d : Nat) (l : Launch) (D : va_G) (ad : Nat → Nat) (kd : Nat → ClassId) (av : List Value) (σ : gS) (post : Int32 → gS → Prop) : Prop := Con l D (ty1 kd) (w1 ad kd) yX1_isLayer cX1_isLayer 2 .boolean (rmL d) (.ref (ad 0) :: av) σ post
abbrev J1_isLayer (d : Nat) (l : Launch) (D : va_G) (ad : Nat → Nat) (kd : Nat → ClassId) (av : List Value) (σ0 : gS) (sz : Nat) (post : Int32 → gS → Prop) (σ : gS) (pc : Nat) (lv : List (Option Value)) (st : List Value) : Prop := G l (rmL d) 0 0 cX1_isLayer 2 RX1 D (ty1 kd) (gI .boolean (.ref (ad 0) :: av).toArray D (ty1 kd) (w1 ad kd) σ0 sz post) (w1 ad kd σ) pc lv st
abbrev C1_drop (d : Nat) (l : Launch) (D : va_G) (ad : Nat → Nat) (kd : Nat → ClassId) (av : List Value) (σ : gS) (post : Int32 → gS → Prop) : Prop := Con l D (ty1 kd) (w1 ad kd) yX1_drop cX1_drop 3 .int (rmL d) (.ref (ad 0) :: av) σ post
abbrev J1_drop (d : Nat) (l : Launch) (D : va_G) (ad : Nat → Nat) (kd : Nat → ClassId) (av : List Value) (σ0 : gS) (sz : Nat) (post : Int32 → gS → Prop) (σ : gS) (pc : Nat) (lv : List (Option Value)) (st : List Value) : Prop := G l (rmL d) 0 0 cX1_drop 3 RX1 D (ty1 kd) (gI .int (.ref (ad 0) :: av).toArray D (ty1 kd) (w1 ad kd) σ0 sz post) (w1 ad kd σ) pc lv st
abbrev C1_covers (d : Nat) (l : Launch) (D : va_G) (ad : Nat → Nat) (kd : Nat → ClassId) (av : List Value) (σ : gS) (post : Int32 → gS → Prop) : Prop := Con l D (ty1 kd) (w1 ad kd) yX1_covers cX1_covers 4 .boolean (rmL d) (.ref (ad 0) :: av) σ post
abbrev J1_covers (d : Nat) (l : Launch) (D : va_G) (ad : Nat → Nat) (kd : Nat → ClassId) (av : List Value) (σ0 : gS) (sz : Nat) (post : Int32 → gS → Prop) (σ : gS) (pc : Nat) (lv : List (Option Value)) (st : List Value) : Prop := G l (rmL d) 0 0 cX1_covers 4 RX1 D (ty1 kd) (gI .boolean (.ref (ad 0) :: av).toArray D (ty1 kd) (w1 ad kd) σ0 sz post) (w1 ad kd σ) pc lv st
abbrev C1_has (d : Nat) (l : Launch) (D : va_G) (ad : Nat → Nat) (kd : Nat → ClassId) (av : List Value) (σ : gS) (post : Int32 → gS → Prop) : Prop := Con l D (ty1 kd) (w1 ad kd) yX1_has cX1_has 5 .boolean (rmL d) (.ref (ad 0) :: av) σ post
abbrev J1_has (d : Nat) (l : Launch) (D : va_G) (ad : Nat → Nat) (kd : Nat → ClassId) (av : List Value) (σ0 : gS) (sz : Nat) (post : Int32 → gS → Prop) (σ : gS) (pc : Nat) (lv : List (Option Value)) (st : List Value) : Prop := G l (rmL d) 0 0 cX1_has 5 RX1 D (ty1 kd) (gI .boolean (.ref (ad 0) :: av).toArray D (ty1 kd) (w1 ad kd) σ0 sz post) (w1 ad kd σ) pc lv st
abbrev C1_area (d : Nat) (l : Launch) (D : va_G) (ad : Nat → Nat) (kd : Nat → ClassId) (av : List Value) (σ : gS) (post : Int32 → gS → Prop) : Prop := Con l D (ty1 kd) (w1 ad kd) yX1_area cX1_area 6 .int (rmL d) (.ref (ad 0) :: av) σ post
abbrev J1_area (d : Nat) (l : Launch) (D : va_G) (ad : Nat → Nat) (kd : Nat → ClassId) (av : List Value) (σ0 : gS) (sz : Nat) (post : Int32 → gS → Prop) (σ : gS) (pc : Nat) (lv : List (Option Value)) (st : List Value) : Prop := G l (rmL d) 0 0 cX1_area 6 RX1 D (ty1 kd) (gI .int (.ref (ad 0) :: av).toArray D (ty1 kd) (w1 ad kd) σ0 sz post) (w1 ad kd σ) pc lv st
abbrev C1_combine (d : Nat) (l : Launch) (D : va_G) (ad : Nat → Nat) (kd : Nat → ClassId) (av : List Value) (σ : gS) (post : Int32 → gS → Prop) : Prop := Con l D (ty1 kd) (w1 ad kd) yX1_combine cX1_combine 7 .boolean (rmL d) (.ref (ad 0) :: av) σ post
abbrev J1_combine (d : Nat) (l : Launch) (D : va_G) (ad : Nat → Nat) (kd : Nat → ClassId) (av : List Value) (σ0 : gS) (sz : Nat) (post : Int32 → gS → Prop) (σ : gS) (pc : Nat) (lv : List (Option Value)) (st : List Value) : Prop := G l (rmL d) 0 0 cX1_combine 7 RX1 D (ty1 kd) (gI .boolean (.ref (ad 0) :: av).toArray D (ty1 kd) (w1 ad kd) σ0 sz post) (w1 ad kd σ) pc lv st
abbrev C1_outline (d : Nat) (l : Launch) (D : va_G) (ad : Nat → Nat) (kd : Nat → ClassId) (av : List Value) (σ : gS) (post : Int32 → gS → Prop) : Prop := Con l D (ty1 kd) (w1 ad kd) yX1_outline cX1_outline 7 .int (rmL d) (.ref (ad 0) :: av) σ post
abbrev J1_outline (d : Nat) (l : Launch) (D : va_G) (ad : Nat → Nat) (kd : Nat → ClassId) (av : List Value) (σ0 : gS) (sz : Nat) (post : Int32 → gS → Prop) (σ : gS) (pc : Nat) (lv : List (Option Value)) (st : List Value) : Prop := G l (rmL d) 0 0 cX1_outline 7 RX1 D (ty1 kd) (gI .int (.ref (ad 0) :: av).toArray D (ty1 kd) (w1 ad kd) σ0 sz post) (w1 ad kd σ) pc lv st
abbrev C1_in (d : Nat) (l : Launch) (D : va_G) (ad : Nat → Nat) (kd : Nat → ClassId) (av : List Value) (σ : gS) (post : Int32 → gS → Prop) : Prop := Con l D (ty1 kd) (w1 ad kd) yX1_in cX1_in 3 .boolean (rmL d) (.ref (ad 0) :: av) σ post
abbrev J1_in (d : Nat) (l : Launch) (D : va_G) (ad : Nat → Nat) (kd : Nat → ClassId) (av : List Value) (σ0 : gS) (sz : Nat) (post : Int32 → gS → Prop) (σ : gS) (pc : Nat) (lv : List (Option Value)) (st : List Value) : Prop := G l (rmL d) 0 0 cX1_in 3 RX1 D (ty1 kd) (gI .boolean (.ref (ad 0) :: av).toArray D (ty1 kd) (w1 ad kd) σ0 sz post) (w1 ad kd σ) pc lv st
abbrev C1_corners (d : Nat) (l : Launch) (D : va_G) (ad : Nat → Nat) (kd : Nat → ClassId) (av : List Value) (σ : gS) (post : Int32 → gS → Prop) : Prop := Con l D (ty1 kd) (w1 ad kd) yX1_corners cX1_corners 11 .int (rmL d) (.ref (ad 0) :: av) σ post
abbrev J1_corners (d : Nat) (l : Launch) (D : va_G) (ad : Nat → Nat) (kd : Nat → ClassId) (av : List Value) (σ0 : gS) (sz : Nat) (post : Int32 → gS → Prop) (σ : gS) (pc : Nat) (lv : List (Option Value)) (st : List Value) : Prop := G l (rmL d) 0 0 cX1_corners 11 RX1 D (ty1 kd) (gI .int (.ref (ad 0) :: av).toArray D (ty1 kd) (w1 ad kd) σ0 sz post) (w1 ad kd σ) pc lv st
abbrev C1_thin (d : Nat) (l : Launch) (D : va_G) (ad : Nat → Nat) (kd : Nat → ClassId) (av : List Value) (σ : gS) (post : Int32 → gS → Prop) : Prop := Con l D (ty1 kd) (w1 ad kd) yX1_thin cX1_thin 8 .int (rmL d) (.ref (ad 0) :: av) σ post
abbrev J1_thin (d : Nat) (l : Launch) (D : va_G) (ad : Nat → Nat) (kd : Nat → ClassId) (av : List Value) (σ0 : gS) (sz : Nat) (post : Int32 → gS → Prop) (σ : gS) (pc : Nat) (lv : List (Option Value)) (st : List Value) : Prop := G l (rmL d) 0 0 cX1_thin 8 RX1 D (ty1 kd) (gI .int (.ref (ad 0) :: av).toArray D (ty1 kd) (w1 ad kd) σ0 sz post) (w1 ad kd σ) pc lv st
abbrev C1_run (d : Nat) (l : Launch) (D : va_G) (ad : Nat → Nat) (kd : Nat → ClassId) (av : List Value) (σ : gS) (post : Int32 → gS → Prop) : Prop := Con l D (ty1 kd) (w1 ad kd) yX1_run cX1_run 10 .int (rmL d) (.ref (ad 0) :: av) σ post
abbrev J1_run (d : Nat) (l : Launch) (D : va_G) (ad : Nat → Nat) (kd : Nat → ClassId) (av : List Value) (σ0 : gS) (sz : Nat) (post : Int32 → gS → Prop) (σ : gS) (pc : Nat) (lv : List (Option Value)) (st : List Value) : Prop := G l (rmL d) 0 0 cX1_run 10 RX1 D (ty1 kd) (gI .int (.ref (ad 0) :: av).toArray D (ty1 kd) (w1 ad kd) σ0 sz post) (w1 ad kd σ) pc lv st
abbrev C1_gaps (d : Nat) (l : Launch) (D : va_G) (ad : Nat → Nat) (kd : Nat → ClassId) (av : List Value) (σ : gS) (post : Int32 → gS → Prop) : Prop := Con l D (ty1 kd) (w1 ad kd) yX1_gaps cX1_gaps 6 .int (rmL d) (.ref (ad 0) :: av) σ post
abbrev J1_gaps (d : Nat) (l : Launch) (D : va_G) (ad : Nat → Nat) (kd : Nat → ClassId) (av : List Value) (σ0 : gS) (sz : Nat) (post : Int32 → gS → Prop) (σ : gS) (pc : Nat) (lv : List (Option Value)) (st : List Value) : Prop := G l (rmL d) 0 0 cX1_gaps 6 RX1 D (ty1 kd) (gI .int (.ref (ad 0) :: av).toArray D (ty1 kd) (w1 ad kd) σ0 sz post) (w1 ad kd σ) pc lv st
abbrev C1_between (d : Nat) (l : Launch) (D : va_G) (ad : Nat → Nat) (kd : Nat → ClassId) (av : List Value) (σ : gS) (post : Int32 → gS → Prop) : Prop := Con l D (ty1 kd) (w1 ad kd) yX1_between cX1_between 8 .boolean (rmL d) (.ref (ad 0) :: av) σ post
abbrev J1_between (d : Nat) (l : Launch) (D : va_G) (ad : Nat → Nat) (kd : Nat → ClassId) (av : List Value) (σ0 : gS) (sz : Nat) (post : Int32 → gS → Prop) (σ : gS) (pc : Nat) (lv : List (Option Value)) (st : List Value) : Prop := G l (rmL d) 0 0 cX1_between 8 RX1 D (ty1 kd) (gI .boolean (.ref (ad 0) :: av).toArray D (ty1 kd) (w1 ad kd) σ0 sz post) (w1 ad kd σ) pc lv st
abbrev C1_enclosure (d : Nat) (l : Launch) (D : va_G) (ad : Nat → Nat) (kd : Nat → ClassId) (av : List Value) (σ : gS) (post : Int32 → gS → Prop) : Prop := Con l D (ty1 kd) (w1 ad kd) yX1_enclosure cX1_enclosure 4 .int (rmL d) (.ref (ad 0) :: av) σ post
abbrev J1_enclosure (d : Nat) (l : Launch) (D : va_G) (ad : Nat → Nat) (kd : Nat → ClassId) (av : List Value) (σ0 : gS) (sz : Nat) (post : Int32 → gS → Prop) (σ : gS) (pc : Nat) (lv : List (Option Value)) (st : List Value) : Prop := G l (rmL d) 0 0 cX1_enclosure 4 RX1 D (ty1 kd) (gI .int (.ref (ad 0) :: av).toArray D (ty1 kd) (w1 ad kd) σ0 sz post) (w1 ad kd σ) pc lv st
abbrev C1_encloses (d : Nat) (l : Launch) (D : va_G) (ad : Nat → Nat) (kd : Nat → ClassId) (av : List Value) (σ : gS) (post : Int32 → gS → Prop) : Prop := Con l D (ty1 kd) (w1 ad kd) yX1_encloses cX1_encloses 4 .boolean (rmL d) (.ref (ad 0) :: av) σ post
abbrev J1_encloses (d : Nat) (l : Launch) (D : va_G) (ad : Nat → Nat) (kd : Nat → ClassId) (av : List Value) (σ0 : gS) (sz : Nat) (post : Int32 → gS → Prop) (σ : gS) (pc : Nat) (lv : List (Option Value)) (st : List Value) : Prop := G l (rmL d) 0 0 cX1_encloses 4 RX1 D (ty1 kd) (gI .boolean (.ref (ad 0) :: av).toArray D (ty1 kd) (w1 ad kd) σ0 sz post) (w1 ad kd σ) pc lv st
abbrev C1_around (d : Nat) (l : Launch) (D : va_G) (ad : Nat → Nat) (kd : Nat → ClassId) (av : List Value) (σ : gS) (post : Int32 → gS → Prop) : Prop := Con l D (ty1 kd) (w1 ad kd) yX1_around cX1_around 6 .boolean (rmL d) (.ref (ad 0) :: av) σ post
abbrev J1_around (d : Nat) (l : Launch) (D : va_G) (ad : Nat → Nat) (kd : Nat → ClassId) (av : List Value) (σ0 : gS) (sz : Nat) (post : Int32 → gS → Prop) (σ : gS) (pc : Nat) (lv : List (Option Value)) (st : List Value) : Prop := G l (rmL d) 0 0 cX1_around 6 RX1 D (ty1 kd) (gI .boolean (.ref (ad 0) :: av).toArray D (ty1 kd) (w1 ad kd) σ0 sz post) (w1 ad kd σ) pc lv st
end
section
set_option maxRecDepth 100000
/-! ===== Int32 by its bits: bt x i ===== -/
def bt (x : Int32) (i : Nat) : Bool := x.toBitVec.getLsbD i
theorem b_ext {x y : Int32} (h : ∀ i, i < 32 → bt x i = bt y i) : x = y := Int32.toBitVec_inj.mp (BitVec.eq_of_getLsbD_eq (fun i hi => h i hi))
theorem b_or (x y : Int32) (i : Nat) : bt (x ||| y) i = (bt x i || bt y i) := by unfold bt; rw [Int32.toBitVec_or, BitVec.getLsbD_or]
theorem b_and (x y : Int32) (i : Nat) : bt (x &&& y) i = (bt x i && bt y i) := by unfold bt; rw [Int32.toBitVec_and, BitVec.getLsbD_and]
theorem b_xor (x y : Int32) (i : Nat) : bt (x ^^^ y) i = (bt x i ^^ bt y i) := by unfold bt; rw [Int32.toBitVec_xor, BitVec.getLsbD_xor]
theorem b_big {x : Int32} {i : Nat} (h : 32 ≤ i) : bt x i = false := BitVec.getLsbD_of_ge _ _ h
theorem b_255 (i : Nat) : bt 255 i = decide (i < 8) := by
  rcases Nat.lt_or_ge i 32 with h | h
  · exact (by decide +kernel : ∀ i, i < 32 → bt 255 i = decide (i < 8)) i h
  · rw [b_big h, decide_eq_false (by omega)]
theorem b_65535 (i : Nat) : bt 65535 i = decide (i < 16) := by
  rcases Nat.lt_or_ge i 32 with h | h
  · exact (by decide +kernel : ∀ i, i < 32 → bt 65535 i = decide (i < 16)) i h
  · rw [b_big h, decide_eq_false (by omega)]
theorem b_m1 : ∀ i, i < 32 → bt (-1) i = true := by decide +kernel
theorem b_0 (i : Nat) : bt 0 i = false := BitVec.getLsbD_zero
theorem s_l : ∀ n, n < 32 → ((nI n &&& 31).toBitVec.smod 32).toNat = n := by decide +kernel
theorem s_u : ∀ n, n < 32 → (((nI n).toUInt32 &&& Int32.toUInt32 31).toBitVec % 32).toNat = n := by decide +kernel
theorem b_shl (n : Nat) (hn : n < 32) (x : Int32) {i : Nat} (hi : i < 32) : bt (x <<< (nI n &&& 31)) i = (decide (n ≤ i) && bt x (i - n)) := by
  unfold bt
  rw [Int32.toBitVec_shiftLeft]
  show (x.toBitVec <<< ((nI n &&& 31).toBitVec.smod 32).toNat).getLsbD i = _
  rw [s_l n hn, BitVec.getLsbD_shiftLeft]
  rcases Nat.lt_or_ge i n with h | h
  · simp [h, Nat.not_le.mpr h]
  · simp [hi, h, Nat.not_lt.mpr h]
theorem b_ushr (n : Nat) (hn : n < 32) (x : Int32) (i : Nat) : bt ((x.toUInt32 >>> ((nI n).toUInt32 &&& Int32.toUInt32 31)).toInt32) i = bt x (n + i) := by
  show (x.toUInt32 >>> ((nI n).toUInt32 &&& Int32.toUInt32 31)).toBitVec.getLsbD i = x.toUInt32.toBitVec.getLsbD (n + i)
  rw [UInt32.toBitVec_shiftRight]
  show (x.toUInt32.toBitVec >>> (((nI n).toUInt32 &&& Int32.toUInt32 31).toBitVec % 32).toNat).getLsbD i = _
  rw [s_u n hn, BitVec.getLsbD_ushiftRight]
theorem b_sshr (n : Nat) (hn : n < 32) (x : Int32) {i : Nat} (hi : i < 32) : bt (x >>> (nI n &&& 31)) i = if n + i < 32 then bt x (n + i) else bt x 31 := by
  unfold bt
  rw [Int32.toBitVec_shiftRight]
  show (x.toBitVec.sshiftRight ((nI n &&& 31).toBitVec.smod 32).toNat).getLsbD i = _
  rw [s_l n hn, BitVec.getLsbD_sshiftRight, BitVec.msb_eq_getLsbD_last]
  simp [hi]
theorem b_shl8 (x : Int32) {i : Nat} (hi : i < 32) : bt (x <<< ((8 : Int32) &&& 31)) i = (decide (8 ≤ i) && bt x (i - 8)) := b_shl 8 (by omega) x hi
theorem b_shl16 (x : Int32) {i : Nat} (hi : i < 32) : bt (x <<< ((16 : Int32) &&& 31)) i = (decide (16 ≤ i) && bt x (i - 16)) := b_shl 16 (by omega) x hi
theorem b_shl24 (x : Int32) {i : Nat} (hi : i < 32) : bt (x <<< ((24 : Int32) &&& 31)) i = (decide (24 ≤ i) && bt x (i - 24)) := b_shl 24 (by omega) x hi
theorem b_sshr8 (x : Int32) {i : Nat} (hi : i < 32) : bt (x >>> ((8 : Int32) &&& 31)) i = if 8 + i < 32 then bt x (8 + i) else bt x 31 := b_sshr 8 (by omega) x hi
theorem fb_rng (x : Int32) : -2147483648 ≤ x.toInt ∧ x.toInt < 2147483648 := by
  have h1 := Int32.le_toInt x
  have h2 := Int32.toInt_lt x
  omega
theorem fb_bmod {z : Int} (h1 : -2147483648 ≤ z) (h2 : z < 2147483648) : z.bmod (2 ^ 32) = z := by
  rw [Int.bmod_eq_of_le (by omega) (by omega)]
theorem fb_addI {x y : Int32} (h1 : -2147483648 ≤ x.toInt + y.toInt) (h2 : x.toInt + y.toInt < 2147483648) : (x + y).toInt = x.toInt + y.toInt := by
  rw [Int32.toInt_add, fb_bmod h1 h2]
theorem fb_subI {x y : Int32} (h1 : -2147483648 ≤ x.toInt - y.toInt) (h2 : x.toInt - y.toInt < 2147483648) : (x - y).toInt = x.toInt - y.toInt := by
  rw [Int32.toInt_sub, fb_bmod h1 h2]
theorem fb_mulI {x y : Int32} (h1 : -2147483648 ≤ x.toInt * y.toInt) (h2 : x.toInt * y.toInt < 2147483648) : (x * y).toInt = x.toInt * y.toInt := by
  rw [Int32.toInt_mul, fb_bmod h1 h2]
theorem fb_ofI {z : Int} (h1 : -2147483648 ≤ z) (h2 : z < 2147483648) : (Int32.ofInt z).toInt = z := by
  rw [Int32.toInt_ofInt, fb_bmod h1 h2]
theorem fb_asI (x : Int32) : Int32.ofInt x.toInt = x := Int32.ofInt_toInt x
theorem fb_byte {x : Int32} (h1 : -128 ≤ x.toInt) (h2 : x.toInt < 128) : x.toInt8.toInt32 = x := by
  apply Int32.toInt_inj.1
  rw [Int8.toInt_toInt32, Int32.toInt_toInt8, Int.bmod_eq_of_le (by omega) (by omega)]

/-! SUMS -/
def sm (f : Nat → Nat) : Nat → Nat
  | 0 => 0
  | n + 1 => sm f n + f n
theorem sm_succ (f : Nat → Nat) (n : Nat) : sm f (n + 1) = sm f n + f n := rfl
theorem sm_cong {f g : Nat → Nat} : ∀ {n : Nat}, (∀ k, k < n → f k = g k) → sm f n = sm g n
  | 0, _ => rfl
  | n + 1, h => by rw [sm_succ, sm_succ, sm_cong (fun k hk => h k (by omega)), h n (by omega)]
theorem sm_add (f g : Nat → Nat) : ∀ n, sm (fun k => f k + g k) n = sm f n + sm g n
  | 0 => rfl
  | n + 1 => by
    rw [sm_succ, sm_succ, sm_succ, sm_add f g n]
    omega
theorem sm_0 : ∀ n, sm (fun _ => 0) n = 0
  | 0 => rfl
  | n + 1 => by rw [sm_succ, sm_0 n]
theorem sm_zero {f : Nat → Nat} {n : Nat} (h : ∀ k, k < n → f k = 0) : sm f n = 0 := by rw [sm_cong h, sm_0]
theorem sm_split (f : Nat → Nat) (m : Nat) : ∀ n, sm f (m + n) = sm f m + sm (fun k => f (m + k)) n
  | 0 => rfl
  | n + 1 => by
    show sm f (m + n + 1) = _
    rw [sm_succ, sm_succ, sm_split f m n, Nat.add_assoc]
theorem sm_const (c : Nat) : ∀ n, sm (fun _ => c) n = n * c
  | 0 => by rw [Nat.zero_mul]; rfl
  | n + 1 => by rw [sm_succ, sm_const c n, Nat.succ_mul]
theorem sm_swap (f : Nat → Nat → Nat) (m : Nat) : ∀ n, sm (fun i => sm (fun j => f i j) m) n = sm (fun j => sm (fun i => f i j) n) m
  | 0 => by
    rw [show sm (fun j => sm (fun i => f i j) 0) m = sm (fun _ => 0) m from rfl, sm_0]
    rfl
  | n + 1 => by
    rw [sm_succ, sm_swap f m n, show (fun j => sm (fun i => f i j) (n + 1)) = (fun j => sm (fun i => f i j) n + f n j) from rfl, sm_add]
theorem sm_le {f : Nat → Nat} {c : Nat} : ∀ {n : Nat}, (∀ k, k < n → f k ≤ c) → sm f n ≤ n * c
  | 0, _ => by rw [Nat.zero_mul]; exact Nat.le_refl _
  | n + 1, h => by
    have h1 := sm_le (f := f) (c := c) (n := n) (fun k hk => h k (by omega))
    have h2 := h n (by omega)
    rw [sm_succ, Nat.succ_mul]
    omega
theorem sm_first (f : Nat → Nat) (n : Nat) : sm f (n + 1) = f 0 + sm (fun k => f (k + 1)) n := by
  rw [Nat.add_comm n 1, sm_split f 1 n]
  show 0 + f 0 + sm (fun k => f (1 + k)) n = _
  rw [Nat.zero_add, sm_cong (g := fun k => f (k + 1)) (fun k _ => by rw [Nat.add_comm])]
/-- the cells of a grid by rows -/
theorem sm_grid (f : Nat → Nat → Nat) : ∀ m, sm (fun c => f (c % 16) (c / 16)) (16 * m) = sm (fun j => sm (fun i => f i j) 16) m
  | 0 => rfl
  | m + 1 => by
    rw [Nat.mul_succ, sm_split, sm_grid f m]
    show _ = sm (fun j => sm (fun i => f i j) 16) m + sm (fun i => f i m) 16
    congr 1
    refine sm_cong fun k hk => ?_
    show f ((16 * m + k) % 16) ((16 * m + k) / 16) = f k m
    rw [show (16 * m + k) % 16 = k by omega, show (16 * m + k) / 16 = m by omega]
def tn (b : Bool) : Nat := cond b 1 0
theorem tn_le (b : Bool) : tn b ≤ 1 := by cases b <;> decide
theorem bI_tn (b : Bool) : bI b = nI (tn b) := by cases b <;> rfl
/-! SMALL NUMBERS -/
theorem i2b_n {n : Nat} (h : n < 128) : (nI n).toInt8.toInt32 = nI n := fb_byte (by rw [nI_toInt (by omega)]; omega) (by rw [nI_toInt (by omega)]; omega)
theorem nar_n {n : Nat} (h : n < 128) : vp_nar .byte (nI n) = nI n := by rw [vp_nar_byte, i2b_n h]
theorem nar_b (b : Bool) : vp_nar .boolean (bI b) = bI b := by cases b <;> decide +kernel
theorem nI_lay {x : Int32} (h1 : ¬ x < 0) (h2 : ¬ nI 2 < x) : ∃ a : Nat, a < 3 ∧ x = nI a := by
  obtain ⟨j, hj, rfl⟩ := nI_of h1
  have := mt (nI_ltI (a := 2) (b := j) (by omega) hj).mpr h2
  exact ⟨j, by omega, rfl⟩
/-- a bit as a number -/
theorem b_nI (n : Nat) {i : Nat} (hi : i < 32) : bt (nI n) i = n.testBit i := by
  show (BitVec.ofNat 32 n).getLsbD i = _
  rw [BitVec.getLsbD_ofNat]
  simp [hi]
theorem b_one : ∀ i, i < 32 → bt (nI 1) i = decide (i = 0) := by decide +kernel
theorem b_at {x : Int32} {j : Nat} (hj : j < 32) : (x >>> (nI j &&& 31)) &&& nI 1 = bI (bt x j) := by
  refine b_ext fun i hi => ?_
  rw [b_and, b_one i hi, b_sshr j hj x hi]
  by_cases h0 : i = 0
  · subst h0
    rw [if_pos (by omega), Nat.add_zero]
    cases bt x j <;> simp [bI] <;> decide +kernel
  · rw [decide_eq_false h0, Bool.and_false]
    cases bt x j
    · exact (b_0 i).symm
    · show false = bt 1 i
      have := b_one i hi
      rw [decide_eq_false h0] at this
      exact this.symm
theorem b_not (x : Int32) {i : Nat} (hi : i < 32) : bt (x ^^^ (-1)) i = !bt x i := by
  rw [b_xor, b_m1 i hi]
  cases bt x i <;> rfl
theorem b_pow {j : Nat} (hj : j < 32) {i : Nat} (hi : i < 32) : bt (nI 1 <<< (nI j &&& 31)) i = decide (i = j) := by
  rw [b_shl j hj _ hi]
  by_cases h : j ≤ i
  · rw [decide_eq_true h, Bool.true_and, b_one _ (by omega)]
    by_cases h2 : i = j
    · rw [decide_eq_true h2, decide_eq_true (by omega)]
    · rw [decide_eq_false h2, decide_eq_false (by omega)]
  · rw [decide_eq_false h, Bool.false_and, decide_eq_false (by omega)]
/-- rows from B to T as bits -/
def rwI (B T : Nat) : Int32 := (nI 1 <<< (nI T &&& 31)) - (nI 1 <<< (nI B &&& 31))
theorem rwI_all : ∀ T, T < 17 → ∀ B, B < 17 → B ≤ T → (rwI B T).toBitVec.toNat = 2 ^ T - 2 ^ B := by decide +kernel
theorem rwI_bits : ∀ T, T < 17 → ∀ B, B < 17 → B ≤ T → ∀ i, i < 32 → (2 ^ T - 2 ^ B).testBit i = (decide (B ≤ i) && decide (i < T)) := by decide +kernel
theorem b_rw {B T : Nat} (h : B ≤ T) (hT : T ≤ 16) {i : Nat} (hi : i < 32) : bt (rwI B T) i = (decide (B ≤ i) && decide (i < T)) := by
  rw [← rwI_bits T (by omega) B (by omega) h i hi, ← rwI_all T (by omega) B (by omega) h]
  show (rwI B T).toBitVec.getLsbD i = _
  rw [BitVec.testBit_toNat]
theorem b_zero {x : Int32} : x = 0 ↔ ∀ i, i < 32 → bt x i = false := ⟨fun h i _ => by rw [h, b_0], fun h => b_ext fun i hi => by rw [h i hi, b_0]⟩
/-! THE PICTURE: c l rectangles in layer l; rectangle k of layer l stands at 10 * l + k: q 0 left, q 1 right, q 2 bottom, q 3 top -/
def anyB (f : Nat → Bool) : Nat → Bool
  | 0 => false
  | n + 1 => anyB f n || f n
theorem anyB_succ (f : Nat → Bool) (n : Nat) : anyB f (n + 1) = (anyB f n || f n) := rfl
theorem anyB_iff {f : Nat → Bool} : ∀ {n : Nat}, anyB f n = true ↔ ∃ k, k < n ∧ f k = true
  | 0 => ⟨fun h => (by cases h), fun ⟨k, hk, _⟩ => absurd hk (Nat.not_lt_zero k)⟩
  | n + 1 => by
    rw [anyB_succ, Bool.or_eq_true, anyB_iff (n := n)]
    constructor
    · rintro (⟨k, hk, h⟩ | h)
      · exact ⟨k, by omega, h⟩
      · exact ⟨n, by omega, h⟩
    · rintro ⟨k, hk, h⟩
      rcases Nat.lt_or_ge k n with z | z
      · exact Or.inl ⟨k, z, h⟩
      · have e : k = n := by omega
        subst e
        exact Or.inr h
theorem anyB_no {f : Nat → Bool} {n : Nat} (h : ∀ k, k < n → f k = false) : anyB f n = false := by
  cases e : anyB f n
  · rfl
  · obtain ⟨k, hk, h2⟩ := anyB_iff.mp e
    rw [h k hk] at h2
    cases h2
def hasR (q : Nat → Nat → Nat) (z i j : Nat) : Bool := (decide (q 0 z ≤ i) && decide (i < q 1 z)) && (decide (q 2 z ≤ j) && decide (j < q 3 z))
def has (c : Nat → Nat) (q : Nat → Nat → Nat) (l i j : Nat) : Bool := anyB (fun k => hasR q (10 * l + k) i j) (c l)
def okQ (c : Nat → Nat) (q : Nat → Nat → Nat) : Prop := ∀ l, l < 3 → c l ≤ 10 ∧ ∀ k, k < c l → q 0 (10 * l + k) < q 1 (10 * l + k) ∧ q 1 (10 * l + k) ≤ 16 ∧ q 2 (10 * l + k) < q 3 (10 * l + k) ∧ q 3 (10 * l + k) ≤ 16
theorem has_j {c : Nat → Nat} {q : Nat → Nat → Nat} (h : okQ c q) {l : Nat} (hl : l < 3) (i : Nat) {j : Nat} (hj : 16 ≤ j) : has c q l i j = false := by
  refine anyB_no fun k hk => ?_
  have := (h l hl).2 k hk
  unfold hasR
  rw [decide_eq_false (show ¬ j < q 3 (10 * l + k) by omega)]
  simp
theorem has_i {c : Nat → Nat} {q : Nat → Nat → Nat} (h : okQ c q) {l : Nat} (hl : l < 3) {i : Nat} (hi : 16 ≤ i) (j : Nat) : has c q l i j = false := by
  refine anyB_no fun k hk => ?_
  have := (h l hl).2 k hk
  unfold hasR
  rw [decide_eq_false (show ¬ i < q 1 (10 * l + k) by omega)]
  simp
def cmb (h : Nat) (p q : Bool) : Bool := match h with
  | 0 => p && q
  | 1 => p || q
  | _ => p && !q
/-- the grid of a combination -/
def gg (c : Nat → Nat) (q : Nat → Nat → Nat) (h a b i j : Nat) : Bool := cmb h (has c q a i j) (has c q b i j)
theorem cmb_ff (h : Nat) : cmb h false false = false := by
  unfold cmb
  split <;> rfl
theorem gg_j {c : Nat → Nat} {q : Nat → Nat → Nat} (h : okQ c q) {a b : Nat} (ha : a < 3) (hb : b < 3) (w i : Nat) {j : Nat} (hj : 16 ≤ j) : gg c q w a b i j = false := by
  unfold gg
  rw [has_j h ha i hj, has_j h hb i hj, cmb_ff]
theorem gg_i {c : Nat → Nat} {q : Nat → Nat → Nat} (h : okQ c q) {a b : Nat} (ha : a < 3) (hb : b < 3) (w : Nat) {i : Nat} (hi : 16 ≤ i) (j : Nat) : gg c q w a b i j = false := by
  unfold gg
  rw [has_i h ha hi j, has_i h hb hi j, cmb_ff]
/-- the two objects hold the picture -/
def R0 (c : Nat → Nat) (q : Nat → Nat → Nat) (σ : gS) : Prop := okQ c q ∧ ∀ l, l < 3 → σ 1 l = nI (c l) ∧ ∀ k, k < c l → σ 2 (10 * l + k) = nI (q 0 (10 * l + k)) ∧ σ 3 (10 * l + k) = nI (q 1 (10 * l + k)) ∧ σ 4 (10 * l + k) = rwI (q 2 (10 * l + k)) (q 3 (10 * l + k))
def R1 (c : Nat → Nat) (q : Nat → Nat → Nat) (σ : gS) : Prop := okQ c q ∧ ∀ l, l < 3 → σ 1 l = nI (c l) ∧ ∀ k, k < c l → σ 2 (10 * l + k) = nI (q 0 (10 * l + k)) ∧ σ 3 (10 * l + k) = nI (q 1 (10 * l + k)) ∧ σ 4 (10 * l + k) = nI (q 2 (10 * l + k)) ∧ σ 5 (10 * l + k) = nI (q 3 (10 * l + k))
theorem R0.to {c : Nat → Nat} {q : Nat → Nat → Nat} {σ σ' : gS} (h : R0 c q σ) (h1 : σ' 1 = σ 1) (h2 : σ' 2 = σ 2) (h3 : σ' 3 = σ 3) (h4 : σ' 4 = σ 4) : R0 c q σ' := by
  refine ⟨h.1, fun l hl => ?_⟩
  rw [h1, h2, h3, h4]
  exact h.2 l hl
theorem R1.to {c : Nat → Nat} {q : Nat → Nat → Nat} {σ σ' : gS} (h : R1 c q σ) (h1 : σ' 1 = σ 1) (h2 : σ' 2 = σ 2) (h3 : σ' 3 = σ 3) (h4 : σ' 4 = σ 4) (h5 : σ' 5 = σ 5) : R1 c q σ' := by
  refine ⟨h.1, fun l hl => ?_⟩
  rw [h1, h2, h3, h4, h5]
  exact h.2 l hl
end
section
set_option maxRecDepth 100000
/-! DrcScan: isLayer, isSpan, bitsIn, widthOf, rowsAt, linesOf -/
def lay (x : Int32) : Bool := !(decide (x < 0)) && !(decide (nI 2 < x))
theorem lay_t {x : Int32} (h1 : ¬ x < 0) (h2 : ¬ nI 2 < x) : lay x = true := by
  unfold lay
  rw [decide_eq_false h1, decide_eq_false h2]
  rfl
theorem lay_f1 {x : Int32} (h1 : x < 0) : lay x = false := by
  unfold lay
  rw [decide_eq_true h1]
  rfl
theorem lay_f2 {x : Int32} (h1 : nI 2 < x) : lay x = false := by
  unfold lay
  rw [decide_eq_true h1, Bool.not_true, Bool.and_false]
theorem lay_n {x : Int32} (h : lay x = true) : ∃ a : Nat, a < 3 ∧ x = nI a := by
  unfold lay at h
  rw [Bool.and_eq_true] at h
  exact nI_lay (by simpa using h.1) (by simpa using h.2)
theorem lay_nI {a : Nat} (h : a < 3) : lay (nI a) = true := lay_t (nI_pos (by omega)) (nI_nlt (by omega) (by omega))
theorem shr5 {n : Nat} (h : n < 2 ^ 31) : nI n >>> (nI 5 &&& 31) = nI (n / 32) := pk_shrN h _ 5 (s_l 5 (by decide))
theorem and31 {n : Nat} (h : n < 2 ^ 31) : nI n &&& nI 31 = nI (n % 32) := pk_andN (by omega) 5 rfl
def spnN (n : Nat) : Bool := decide (n / 32 < n % 32) && decide (n % 32 ≤ 16)
def spn (x : Int32) : Bool := !(decide (x < 0)) && spnN x.toNatClampNeg
theorem spn_f {x : Int32} (h : x < 0) : spn x = false := by
  unfold spn
  rw [decide_eq_true h]
  rfl
theorem spn_n {n : Nat} (h : n < 2 ^ 31) : spn (nI n) = spnN n := by
  unfold spn
  rw [decide_eq_false (nI_pos h), nI_clamp h]
  rfl
theorem spn_of {x : Int32} (h : spn x = true) : ∃ n : Nat, n < 2 ^ 31 ∧ x = nI n ∧ n / 32 < n % 32 ∧ n % 32 ≤ 16 := by
  unfold spn spnN at h
  simp only [Bool.and_eq_true, Bool.not_eq_true', decide_eq_false_iff_not, decide_eq_true_eq] at h
  obtain ⟨n, hn, rfl⟩ := nI_of h.1
  rw [nI_clamp hn] at h
  exact ⟨n, hn, rfl, h.2.1, h.2.2⟩
section LEAF0
variable {l : Launch} {D : va_G} {ad : Nat → Nat} {kd : Nat → ClassId} {σ : gS} {c : Nat → Nat} {q : Nat → Nat → Nat}
theorem m0_isLayer (x : Int32) : C0_isLayer 0 l D ad kd [.int x] σ (fun r u => u = σ ∧ r = bI (lay x)) := by
  refine Con.of (lv := [some (.ref (ad 0)), some (.int x)]) (by decide) rfl (Nat.le_of_ble_eq_true rfl) (by simp [Value.category]) (Nat.le_of_ble_eq_true rfl) rfl (fun sz => ?_)
  refine g_il1 dX0_isLayer_0 ?_
  refine g_if_lt (tgt := 13) dX0_isLayer_1 (by decide) (fun c1 => ?_) (fun c1 => ?_)
  · refine g_iconst (v := nI 0) dX0_isLayer_13 rfl ?_
    exact g_zret dX0_isLayer_14 rfl (⟨rfl, by rw [lay_f1 c1]; rfl⟩)
  · refine g_il1 dX0_isLayer_4 ?_
    refine g_iconst (v := nI 2) dX0_isLayer_5 rfl ?_
    refine g_icmp_gt (tgt := 13) dX0_isLayer_6 (by decide) (fun c6 => ?_) (fun c6 => ?_)
    · refine g_iconst (v := nI 0) dX0_isLayer_13 rfl ?_
      exact g_zret dX0_isLayer_14 rfl (⟨rfl, by rw [lay_f2 c6]; rfl⟩)
    · refine g_iconst (v := nI 1) dX0_isLayer_9 rfl ?_
      refine g_goto (tgt := 14) dX0_isLayer_10 (by decide) ?_
      exact g_zret dX0_isLayer_14 rfl (⟨rfl, by rw [lay_t c1 c6]; rfl⟩)
theorem m0_isSpan (x : Int32) : C0_isSpan 0 l D ad kd [.int x] σ (fun r u => u = σ ∧ r = bI (spn x)) := by
  refine Con.of (lv := [some (.ref (ad 0)), some (.int x), none, none]) (by decide) rfl (Nat.le_of_ble_eq_true rfl) (by simp [Value.category]) (Nat.le_of_ble_eq_true rfl) rfl (fun sz => ?_)
  refine g_il1 dX0_isSpan_0 ?_
  refine g_if_ge (tgt := 6) dX0_isSpan_1 (by decide) (fun c1 => ?_) (fun c1 => ?_)
  · obtain ⟨n, hn, rfl⟩ := nI_of (fun h => absurd (show (0 : Int32) ≤ x from c1) (by rw [Int32.not_le]; exact h))
    rw [spn_n hn]
    refine g_il1 dX0_isSpan_6 ?_
    refine g_iconst (v := nI 5) dX0_isSpan_7 rfl ?_
    refine g_ishr dX0_isSpan_8 ?_
    refine g_top (shr5 hn) ?_
    refine g_is2 dX0_isSpan_9 ?_
    refine g_il1 dX0_isSpan_10 ?_
    refine g_bipush (v := nI 31) dX0_isSpan_11 rfl ?_
    refine g_iand dX0_isSpan_13 ?_
    refine g_top (and31 hn) ?_
    refine g_is3 dX0_isSpan_14 ?_
    refine g_il2 dX0_isSpan_15 ?_
    refine g_il3 dX0_isSpan_16 ?_
    refine g_icmp_ge_n (tgt := 30) dX0_isSpan_17 (by decide) (by omega) (by omega) (fun c17 => ?_) (fun c17 => ?_)
    · refine g_iconst (v := nI 0) dX0_isSpan_30 rfl ?_
      exact g_zret dX0_isSpan_31 rfl (⟨rfl, by unfold spnN; rw [decide_eq_false (by omega)]; rfl⟩)
    · refine g_il3 dX0_isSpan_20 ?_
      refine g_bipush (v := nI 16) dX0_isSpan_21 rfl ?_
      refine g_icmp_gt_n (tgt := 30) dX0_isSpan_23 (by decide) (by omega) (by omega) (fun c23 => ?_) (fun c23 => ?_)
      · refine g_iconst (v := nI 0) dX0_isSpan_30 rfl ?_
        exact g_zret dX0_isSpan_31 rfl (⟨rfl, by unfold spnN; rw [decide_eq_true c17, decide_eq_false (by omega)]; rfl⟩)
      · refine g_iconst (v := nI 1) dX0_isSpan_26 rfl ?_
        refine g_goto (tgt := 31) dX0_isSpan_27 (by decide) ?_
        exact g_zret dX0_isSpan_31 rfl (⟨rfl, by unfold spnN; rw [decide_eq_true c17, decide_eq_true c23]; rfl⟩)
  · refine g_iconst (v := nI 0) dX0_isSpan_4 rfl ?_
    exact g_zret dX0_isSpan_5 rfl (⟨rfl, by rw [spn_f (Int32.not_le.mp c1)]; rfl⟩)
/-- how many of a number's lowest 18 bits -/
def bits (x : Int32) : Nat := sm (fun j => tn (bt x j)) 18
theorem bits_le (x : Int32) : bits x ≤ 18 := by
  have := sm_le (f := fun j => tn (bt x j)) (c := 1) (n := 18) (fun k _ => tn_le _)
  unfold bits
  omega
theorem m0_bitsIn (x : Int32) : C0_bitsIn 0 l D ad kd [.int x] σ (fun r u => u = σ ∧ r = nI (bits x)) := by
  refine Con.of (lv := [some (.ref (ad 0)), some (.int x), none, none]) (by decide) rfl (Nat.le_of_ble_eq_true rfl) (by simp [Value.category]) (Nat.le_of_ble_eq_true rfl) rfl (fun sz => ?_)
  have loop : ∀ (f j : Nat), 18 - j < f → j ≤ 18 → J0_bitsIn 0 l D ad kd [.int x] σ sz (fun r u => u = σ ∧ r = nI (bits x)) σ 4 [some (.ref (ad 0)), some (.int x), some (.int (nI (sm (fun j => tn (bt x j)) j))), some (.int (nI j))] [] := by
    intro f
    induction f with
    | zero => intro j h; omega
    | succ f ih =>
      intro j hf hj
      have hb := sm_le (f := fun j => tn (bt x j)) (c := 1) (n := j) (fun k _ => tn_le _)
      refine g_il3 dX0_bitsIn_4 ?_
      refine g_bipush (v := nI 18) dX0_bitsIn_5 rfl ?_
      refine g_icmp_ge_n (tgt := 24) dX0_bitsIn_7 (by decide) (by omega) (by omega) (fun c7 => ?_) (fun c7 => ?_)
      · refine g_il2 dX0_bitsIn_24 ?_
        exact g_iret dX0_bitsIn_25 (⟨rfl, by rw [show j = 18 by omega]; rfl⟩)
      · refine g_il2 dX0_bitsIn_10 ?_
        refine g_il1 dX0_bitsIn_11 ?_
        refine g_il3 dX0_bitsIn_12 ?_
        refine g_ishr dX0_bitsIn_13 ?_
        refine g_iconst (v := nI 1) dX0_bitsIn_14 rfl ?_
        refine g_iand dX0_bitsIn_15 ?_
        refine g_top ((b_at (by omega)).trans (bI_tn _)) ?_
        refine g_iadd_n dX0_bitsIn_16 ?_
        refine g_is2 dX0_bitsIn_17 ?_
        refine g_ic3_n dX0_bitsIn_18 ?_
        refine g_goto (tgt := 4) dX0_bitsIn_21 (by decide) ?_
        exact ih (j + 1) (by omega) (by omega)
  refine g_iconst (v := nI 0) dX0_bitsIn_0 rfl ?_
  refine g_is2 dX0_bitsIn_1 ?_
  refine g_iconst (v := nI 0) dX0_bitsIn_2 rfl ?_
  refine g_is3 dX0_bitsIn_3 ?_
  exact loop 19 0 (by omega) (by omega)
theorem m0_widthOf {k X Y : Nat} (hk : k < 17) (h0 : σ 5 k = nI X) (h1 : σ 5 (k + 1) = nI Y) (hXY : X ≤ Y) : C0_widthOf 0 l D ad kd [.int (nI k)] σ (fun r u => u = σ ∧ r = nI (Y - X)) := by
  refine Con.of (lv := [some (.ref (ad 0)), some (.int (nI k))]) (by decide) rfl (Nat.le_of_ble_eq_true rfl) (by simp [Value.category]) (Nat.le_of_ble_eq_true rfl) rfl (fun sz => ?_)
  refine g_al0 dX0_widthOf_0 ?_
  refine g0_f23 dX0_widthOf_1 ?_
  refine g_il1 dX0_widthOf_4 ?_
  refine g_iconst (v := nI 1) dX0_widthOf_5 rfl ?_
  refine g_iadd_n dX0_widthOf_6 ?_
  refine g0_ld5 dX0_widthOf_7 (by omega) ?_
  refine g_top (h1) ?_
  refine g_al0 dX0_widthOf_8 ?_
  refine g0_f23 dX0_widthOf_9 ?_
  refine g_il1 dX0_widthOf_12 ?_
  refine g0_ld5 dX0_widthOf_13 (by omega) ?_
  refine g_top (h0) ?_
  refine g_isub_n dX0_widthOf_14 (by omega) ?_
  exact g_iret dX0_widthOf_15 (⟨rfl, rfl⟩)
theorem m0_rowsAt (hR : R0 c q σ) {a i : Nat} (ha : a < 3) (hi : i < 2 ^ 31) : C0_rowsAt 0 l D ad kd [.int (nI a), .int (nI i)] σ (fun r u => u = σ ∧ ∀ j, j < 32 → bt r j = has c q a i j) := by
  refine Con.of (lv := [some (.ref (ad 0)), some (.int (nI a)), some (.int (nI i)), none, none]) (by decide) rfl (Nat.le_of_ble_eq_true rfl) (by simp [Value.category]) (Nat.le_of_ble_eq_true rfl) rfl (fun sz => ?_)
  have hc := (hR.1 a ha).1
  have loop : ∀ (f k : Nat) (v : Int32), c a - k < f → k ≤ c a → (∀ j, j < 32 → bt v j = anyB (fun k => hasR q (10 * a + k) i j) k) → J0_rowsAt 0 l D ad kd [.int (nI a), .int (nI i)] σ sz (fun r u => u = σ ∧ ∀ j, j < 32 → bt r j = has c q a i j) σ 8 [some (.ref (ad 0)), some (.int (nI a)), some (.int (nI i)), some (.int v), some (.int (nI (10 * a + k)))] [] := by
    intro f
    induction f with
    | zero => intro k v h; omega
    | succ f ih =>
      intro k v hf hk hv
      refine g_il4 dX0_rowsAt_8 ?_
      refine g_bipush (v := nI 10) dX0_rowsAt_10 rfl ?_
      refine g_il1 dX0_rowsAt_12 ?_
      refine g_imul_n dX0_rowsAt_13 ?_
      refine g_al0 dX0_rowsAt_14 ?_
      refine g0_f7 dX0_rowsAt_15 ?_
      refine g_il1 dX0_rowsAt_18 ?_
      refine g0_ld1 dX0_rowsAt_19 (by omega) ?_
      refine g_top ((hR.2 a ha).1) ?_
      refine g_iadd_n dX0_rowsAt_20 ?_
      refine g_icmp_ge_n (tgt := 62) dX0_rowsAt_21 (by decide) (by omega) (by omega) (fun c21 => ?_) (fun c21 => ?_)
      · refine g_il3 dX0_rowsAt_62 ?_
        exact g_iret dX0_rowsAt_63 (⟨rfl, fun j hj => by rw [hv j hj, show k = c a by omega]; rfl⟩)
      · have hkc : k < c a := by omega
        obtain ⟨e2, e3, e4⟩ := (hR.2 a ha).2 k hkc
        obtain ⟨o1, o2, o3, o4⟩ := (hR.1 a ha).2 k hkc
        have skip : (∀ j, hasR q (10 * a + k) i j = false) → J0_rowsAt 0 l D ad kd [.int (nI a), .int (nI i)] σ sz (fun r u => u = σ ∧ ∀ j, j < 32 → bt r j = has c q a i j) σ 56 [some (.ref (ad 0)), some (.int (nI a)), some (.int (nI i)), some (.int v), some (.int (nI (10 * a + k)))] [] := by
          intro hz
          refine g_ic4_n dX0_rowsAt_56 ?_
          refine g_goto (tgt := 8) dX0_rowsAt_59 (by decide) ?_
          exact ih (k + 1) v (by omega) (by omega) (fun j hj => by rw [hv j hj, anyB_succ, hz j, Bool.or_false])
        refine g_al0 dX0_rowsAt_24 ?_
        refine g0_f13 dX0_rowsAt_25 ?_
        refine g_il4 dX0_rowsAt_28 ?_
        refine g0_ld2 dX0_rowsAt_30 (by omega) ?_
        refine g_top (e2) ?_
        refine g_il2 dX0_rowsAt_31 ?_
        refine g_icmp_gt_n (tgt := 56) dX0_rowsAt_32 (by decide) (by omega) (by omega) (fun c32 => ?_) (fun c32 => ?_)
        · exact skip (fun j => by unfold hasR; rw [decide_eq_false (by omega)]; simp)
        · refine g_il2 dX0_rowsAt_35 ?_
          refine g_al0 dX0_rowsAt_36 ?_
          refine g0_f16 dX0_rowsAt_37 ?_
          refine g_il4 dX0_rowsAt_40 ?_
          refine g0_ld3 dX0_rowsAt_42 (by omega) ?_
          refine g_top (e3) ?_
          refine g_icmp_ge_n (tgt := 56) dX0_rowsAt_43 (by decide) (by omega) (by omega) (fun c43 => ?_) (fun c43 => ?_)
          · exact skip (fun j => by unfold hasR; rw [decide_eq_false (show ¬ i < q 1 (10 * a + k) by omega)]; simp)
          · refine g_il3 dX0_rowsAt_46 ?_
            refine g_al0 dX0_rowsAt_47 ?_
            refine g0_f19 dX0_rowsAt_48 ?_
            refine g_il4 dX0_rowsAt_51 ?_
            refine g0_ld4 dX0_rowsAt_53 (by omega) ?_
            refine g_top (e4) ?_
            refine g_ior dX0_rowsAt_54 ?_
            refine g_is3 dX0_rowsAt_55 ?_
            refine g_ic4_n dX0_rowsAt_56 ?_
            refine g_goto (tgt := 8) dX0_rowsAt_59 (by decide) ?_
            refine ih (k + 1) _ (by omega) (by omega) (fun j hj => ?_)
            rw [b_or, hv j hj, anyB_succ, b_rw (by omega) o4 hj]
            congr 1
            unfold hasR
            rw [decide_eq_true c32, decide_eq_true c43]
            rfl
  refine g_iconst (v := nI 0) dX0_rowsAt_0 rfl ?_
  refine g_top (nI_0) ?_
  refine g_is3 dX0_rowsAt_1 ?_
  refine g_bipush (v := nI 10) dX0_rowsAt_2 rfl ?_
  refine g_il1 dX0_rowsAt_4 ?_
  refine g_imul_n dX0_rowsAt_5 ?_
  refine g_is4 dX0_rowsAt_6 ?_
  exact loop (c a + 1) 0 0 (by omega) (by omega) (fun j _ => b_0 j)
theorem m0_linesOf (hR : R0 c q σ) {a : Nat} (ha : a < 3) : C0_linesOf 0 l D ad kd [.int (nI a)] σ (fun r u => u = σ ∧ ∀ j, j < 32 → bt r j = anyB (fun k => decide (j = q 0 (10 * a + k)) || decide (j = q 1 (10 * a + k))) (c a)) := by
  refine Con.of (lv := [some (.ref (ad 0)), some (.int (nI a)), none, none]) (by decide) rfl (Nat.le_of_ble_eq_true rfl) (by simp [Value.category]) (Nat.le_of_ble_eq_true rfl) rfl (fun sz => ?_)
  have hc := (hR.1 a ha).1
  have loop : ∀ (f k : Nat) (v : Int32), c a - k < f → k ≤ c a → (∀ j, j < 32 → bt v j = anyB (fun k => decide (j = q 0 (10 * a + k)) || decide (j = q 1 (10 * a + k))) k) → J0_linesOf 0 l D ad kd [.int (nI a)] σ sz (fun r u => u = σ ∧ ∀ j, j < 32 → bt r j = anyB (fun k => decide (j = q 0 (10 * a + k)) || decide (j = q 1 (10 * a + k))) (c a)) σ 7 [some (.ref (ad 0)), some (.int (nI a)), some (.int v), some (.int (nI (10 * a + k)))] [] := by
    intro f
    induction f with
    | zero => intro k v h; omega
    | succ f ih =>
      intro k v hf hk hv
      refine g_il3 dX0_linesOf_7 ?_
      refine g_bipush (v := nI 10) dX0_linesOf_8 rfl ?_
      refine g_il1 dX0_linesOf_10 ?_
      refine g_imul_n dX0_linesOf_11 ?_
      refine g_al0 dX0_linesOf_12 ?_
      refine g0_f7 dX0_linesOf_13 ?_
      refine g_il1 dX0_linesOf_16 ?_
      refine g0_ld1 dX0_linesOf_17 (by omega) ?_
      refine g_top ((hR.2 a ha).1) ?_
      refine g_iadd_n dX0_linesOf_18 ?_
      refine g_icmp_ge_n (tgt := 48) dX0_linesOf_19 (by decide) (by omega) (by omega) (fun c19 => ?_) (fun c19 => ?_)
      · refine g_il2 dX0_linesOf_48 ?_
        exact g_iret dX0_linesOf_49 (⟨rfl, fun j hj => by rw [hv j hj, show k = c a by omega]⟩)
      · have hkc : k < c a := by omega
        obtain ⟨e2, e3, e4⟩ := (hR.2 a ha).2 k hkc
        obtain ⟨o1, o2, o3, o4⟩ := (hR.1 a ha).2 k hkc
        refine g_il2 dX0_linesOf_22 ?_
        refine g_iconst (v := nI 1) dX0_linesOf_23 rfl ?_
        refine g_al0 dX0_linesOf_24 ?_
        refine g0_f13 dX0_linesOf_25 ?_
        refine g_il3 dX0_linesOf_28 ?_
        refine g0_ld2 dX0_linesOf_29 (by omega) ?_
        refine g_top (e2) ?_
        refine g_ishl dX0_linesOf_30 ?_
        refine g_iconst (v := nI 1) dX0_linesOf_31 rfl ?_
        refine g_al0 dX0_linesOf_32 ?_
        refine g0_f16 dX0_linesOf_33 ?_
        refine g_il3 dX0_linesOf_36 ?_
        refine g0_ld3 dX0_linesOf_37 (by omega) ?_
        refine g_top (e3) ?_
        refine g_ishl dX0_linesOf_38 ?_
        refine g_ior dX0_linesOf_39 ?_
        refine g_ior dX0_linesOf_40 ?_
        refine g_is2 dX0_linesOf_41 ?_
        refine g_ic3_n dX0_linesOf_42 ?_
        refine g_goto (tgt := 7) dX0_linesOf_45 (by decide) ?_
        refine ih (k + 1) _ (by omega) (by omega) (fun j hj => ?_)
        rw [b_or, hv j hj, anyB_succ, b_or, b_pow (by omega) hj, b_pow (by omega) hj]
  refine g_iconst (v := nI 0) dX0_linesOf_0 rfl ?_
  refine g_top (nI_0) ?_
  refine g_is2 dX0_linesOf_1 ?_
  refine g_bipush (v := nI 10) dX0_linesOf_2 rfl ?_
  refine g_il1 dX0_linesOf_4 ?_
  refine g_imul_n dX0_linesOf_5 ?_
  refine g_is3 dX0_linesOf_6 ?_
  exact loop (c a + 1) 0 0 (by omega) (by omega) (fun j _ => b_0 j)
end LEAF0
end
section
set_option maxRecDepth 100000
/-! add, drop: what they answer and the picture behind them -/
def addQ1 (q : Nat → Nat → Nat) (z x y : Nat) : Nat → Nat → Nat := fun f w => if w = z then (match f with | 0 => x / 32 | 1 => x % 32 | 2 => y / 32 | _ => y % 32) else q f w
def addC1 (c : Nat → Nat) (a : Nat) : Nat → Nat := fun l => if l = a then c l + 1 else c l
def addV (la x y : Int32) : Bool := lay la && (spn x && spn y)
def addR (c : Nat → Nat) (la x y : Int32) : Int32 := if addV la x y = true then (if c la.toNatClampNeg < 10 then nI (c la.toNatClampNeg + 1) else -3) else -2
def addC (c : Nat → Nat) (la x y : Int32) : Nat → Nat := if addV la x y = true ∧ c la.toNatClampNeg < 10 then addC1 c la.toNatClampNeg else c
def addQ (c : Nat → Nat) (q : Nat → Nat → Nat) (la x y : Int32) : Nat → Nat → Nat := if addV la x y = true ∧ c la.toNatClampNeg < 10 then addQ1 q (10 * la.toNatClampNeg + c la.toNatClampNeg) x.toNatClampNeg y.toNatClampNeg else q
theorem add_bad {c : Nat → Nat} {q : Nat → Nat → Nat} {la x y : Int32} (h : addV la x y = false) : addR c la x y = -2 ∧ addC c la x y = c ∧ addQ c q la x y = q := by
  unfold addR addC addQ
  rw [h]
  exact ⟨rfl, if_neg (fun z => by cases z.1), if_neg (fun z => by cases z.1)⟩
theorem add_full {c : Nat → Nat} {q : Nat → Nat → Nat} {a : Nat} {x y : Int32} (ha : a < 2 ^ 31) (h : addV (nI a) x y = true) (h2 : 10 ≤ c a) : addR c (nI a) x y = -3 ∧ addC c (nI a) x y = c ∧ addQ c q (nI a) x y = q := by
  unfold addR addC addQ
  rw [nI_clamp ha]
  exact ⟨by rw [if_pos h, if_neg (by omega)], if_neg (by omega), if_neg (by omega)⟩
theorem add_ok {c : Nat → Nat} {q : Nat → Nat → Nat} {a x y : Nat} (ha : a < 2 ^ 31) (hx : x < 2 ^ 31) (hy : y < 2 ^ 31) (h : addV (nI a) (nI x) (nI y) = true) (h2 : c a < 10) : addR c (nI a) (nI x) (nI y) = nI (c a + 1) ∧ addC c (nI a) (nI x) (nI y) = addC1 c a ∧ addQ c q (nI a) (nI x) (nI y) = addQ1 q (10 * a + c a) x y := by
  unfold addR addC addQ
  rw [nI_clamp ha, nI_clamp hx, nI_clamp hy]
  exact ⟨by rw [if_pos h, if_pos h2], if_pos ⟨h, h2⟩, if_pos ⟨h, h2⟩⟩
theorem okQ_add {c : Nat → Nat} {q : Nat → Nat → Nat} (h : okQ c q) {a x y : Nat} (ha : a < 3) (hc : c a < 10) (x1 : x / 32 < x % 32) (x2 : x % 32 ≤ 16) (y1 : y / 32 < y % 32) (y2 : y % 32 ≤ 16) : okQ (addC1 c a) (addQ1 q (10 * a + c a) x y) := by
  intro l hl
  obtain ⟨h1, h2⟩ := h l hl
  unfold addC1
  by_cases e : l = a
  · subst e
    rw [if_pos rfl]
    refine ⟨by omega, fun k hk => ?_⟩
    unfold addQ1
    by_cases e2 : k = c l
    · subst e2
      simp only [if_true]
      exact ⟨x1, x2, y1, y2⟩
    · simp only [if_neg (show ¬ 10 * l + k = 10 * l + c l by omega)]
      exact h2 k (by omega)
  · rw [if_neg e]
    refine ⟨h1, fun k hk => ?_⟩
    unfold addQ1
    simp only [if_neg (show ¬ 10 * l + k = 10 * a + c a by omega)]
    exact h2 k hk
theorem R0_add {c : Nat → Nat} {q : Nat → Nat → Nat} {σ σ' : gS} (h : R0 c q σ) {a x y : Nat} (ha : a < 3) (hc : c a < 10) (x1 : x / 32 < x % 32) (x2 : x % 32 ≤ 16) (y1 : y / 32 < y % 32) (y2 : y % 32 ≤ 16) (s1 : σ' 1 = upd (σ 1) a (nI (c a + 1))) (s2 : σ' 2 = upd (σ 2) (10 * a + c a) (nI (x / 32))) (s3 : σ' 3 = upd (σ 3) (10 * a + c a) (nI (x % 32))) (s4 : σ' 4 = upd (σ 4) (10 * a + c a) (rwI (y / 32) (y % 32))) : R0 (addC1 c a) (addQ1 q (10 * a + c a) x y) σ' := by
  refine ⟨okQ_add h.1 ha hc x1 x2 y1 y2, fun l hl => ?_⟩
  obtain ⟨h1, h2⟩ := h.2 l hl
  have hl10 := (h.1 l hl).1
  rw [s1, s2, s3, s4]
  unfold addC1
  by_cases e : l = a
  · subst e
    rw [if_pos rfl]
    refine ⟨pk_us, fun k hk => ?_⟩
    unfold addQ1
    by_cases e2 : k = c l
    · subst e2
      simp only [if_true]
      exact ⟨pk_us, pk_us, pk_us⟩
    · simp only [if_neg (show ¬ 10 * l + k = 10 * l + c l by omega)]
      rw [pk_un (by omega), pk_un (by omega), pk_un (by omega)]
      exact h2 k (by omega)
  · rw [if_neg e]
    refine ⟨by rw [pk_un e]; exact h1, fun k hk => ?_⟩
    unfold addQ1
    simp only [if_neg (show ¬ 10 * l + k = 10 * a + c a by omega)]
    rw [pk_un (by omega), pk_un (by omega), pk_un (by omega)]
    exact h2 k hk
/-! drop -/
def drpC1 (c : Nat → Nat) (a : Nat) : Nat → Nat := fun l => if l = a then c l - 1 else c l
def drpQ1 (q : Nat → Nat → Nat) (a : Nat) : Nat → Nat → Nat := fun f w => if 10 * a ≤ w ∧ w < 10 * a + 9 then q f (w + 1) else q f w
def drpV (c : Nat → Nat) (la : Int32) : Bool := lay la && !(decide (c la.toNatClampNeg = 0))
def drpR (c : Nat → Nat) (la : Int32) : Int32 := if drpV c la = true then nI (c la.toNatClampNeg - 1) else -2
def drpC (c : Nat → Nat) (la : Int32) : Nat → Nat := if drpV c la = true then drpC1 c la.toNatClampNeg else c
def drpQ (c : Nat → Nat) (q : Nat → Nat → Nat) (la : Int32) : Nat → Nat → Nat := if drpV c la = true then drpQ1 q la.toNatClampNeg else q
theorem drp_bad {c : Nat → Nat} {q : Nat → Nat → Nat} {la : Int32} (h : drpV c la = false) : drpR c la = -2 ∧ drpC c la = c ∧ drpQ c q la = q := by
  unfold drpR drpC drpQ
  rw [h]
  exact ⟨rfl, rfl, rfl⟩
theorem drpV_0 {c : Nat → Nat} {a : Nat} (ha : a < 3) (h : c a = 0) : drpV c (nI a) = false := by
  unfold drpV
  rw [nI_clamp (by omega), h]
  simp
theorem drp_ok {c : Nat → Nat} {q : Nat → Nat → Nat} {a : Nat} (ha : a < 3) (h : ¬ c a = 0) : drpR c (nI a) = nI (c a - 1) ∧ drpC c (nI a) = drpC1 c a ∧ drpQ c q (nI a) = drpQ1 q a := by
  unfold drpR drpC drpQ
  have : drpV c (nI a) = true := by
    unfold drpV
    rw [nI_clamp (by omega), lay_nI ha, decide_eq_false h]
    rfl
  rw [this, nI_clamp (by omega)]
  exact ⟨rfl, rfl, rfl⟩
theorem okQ_drp {c : Nat → Nat} {q : Nat → Nat → Nat} (h : okQ c q) {a : Nat} (ha : a < 3) (hc : ¬ c a = 0) : okQ (drpC1 c a) (drpQ1 q a) := by
  intro l hl
  obtain ⟨h1, h2⟩ := h l hl
  unfold drpC1
  by_cases e : l = a
  · subst e
    rw [if_pos rfl]
    refine ⟨by omega, fun k hk => ?_⟩
    unfold drpQ1
    simp only [if_pos (show 10 * l ≤ 10 * l + k ∧ 10 * l + k < 10 * l + 9 by omega)]
    exact h2 (k + 1) (by omega)
  · rw [if_neg e]
    refine ⟨h1, fun k hk => ?_⟩
    unfold drpQ1
    simp only [if_neg (show ¬ (10 * a ≤ 10 * l + k ∧ 10 * l + k < 10 * a + 9) by omega)]
    exact h2 k hk
/-- an array shifted down by one from 10 * a on, n places of it -/
def shf (f : Nat → Int32) (a n : Nat) : Nat → Int32 := fun w => if 10 * a ≤ w ∧ w < 10 * a + n then f (w + 1) else f w
theorem shf_0 (f : Nat → Int32) (a : Nat) : shf f a 0 = f := funext fun w => if_neg (by omega)
theorem shf_s (f : Nat → Int32) (a n : Nat) : upd (shf f a n) (10 * a + n) (shf f a n (10 * a + n + 1)) = shf f a (n + 1) := by
  funext w
  unfold upd shf
  by_cases h : w = 10 * a + n
  · subst h
    rw [if_pos rfl, if_neg (by omega), if_pos (by omega)]
  · rw [if_neg h]
    by_cases h2 : 10 * a ≤ w ∧ w < 10 * a + n
    · rw [if_pos h2, if_pos (by omega)]
    · rw [if_neg h2, if_neg (by omega)]
theorem R0_drp {c : Nat → Nat} {q : Nat → Nat → Nat} {σ σ' : gS} (h : R0 c q σ) {a : Nat} (ha : a < 3) (hc : ¬ c a = 0) (s1 : σ' 1 = upd (σ 1) a (nI (c a - 1))) (s2 : σ' 2 = shf (σ 2) a (c a - 1)) (s3 : σ' 3 = shf (σ 3) a (c a - 1)) (s4 : σ' 4 = shf (σ 4) a (c a - 1)) : R0 (drpC1 c a) (drpQ1 q a) σ' := by
  refine ⟨okQ_drp h.1 ha hc, fun l hl => ?_⟩
  obtain ⟨h1, h2⟩ := h.2 l hl
  have hl10 := (h.1 l hl).1
  have ha10 := (h.1 a ha).1
  rw [s1, s2, s3, s4]
  unfold drpC1
  by_cases e : l = a
  · subst e
    rw [if_pos rfl]
    refine ⟨pk_us, fun k hk => ?_⟩
    unfold drpQ1 shf
    simp only [if_pos (show 10 * l ≤ 10 * l + k ∧ 10 * l + k < 10 * l + 9 by omega), if_pos (show 10 * l ≤ 10 * l + k ∧ 10 * l + k < 10 * l + (c l - 1) by omega)]
    exact h2 (k + 1) (by omega)
  · rw [if_neg e]
    refine ⟨by rw [pk_un e]; exact h1, fun k hk => ?_⟩
    unfold drpQ1 shf
    simp only [if_neg (show ¬ (10 * a ≤ 10 * l + k ∧ 10 * l + k < 10 * a + 9) by omega), if_neg (show ¬ (10 * a ≤ 10 * l + k ∧ 10 * l + k < 10 * a + (c a - 1)) by omega)]
    exact h2 k hk
section ADD0
variable {l : Launch} {D : va_G} {ad : Nat → Nat} {kd : Nat → ClassId} {σ : gS} {c : Nat → Nat} {q : Nat → Nat → Nat}
theorem m0_add (hR : R0 c q σ) (la x y : Int32) : C0_add 1 l D ad kd [.int la, .int x, .int y] σ (fun r u => r = addR c la x y ∧ R0 (addC c la x y) (addQ c q la x y) u) := by
  refine Con.of (lv := [some (.ref (ad 0)), some (.int la), some (.int x), some (.int y), none]) (by decide) rfl (Nat.le_of_ble_eq_true rfl) (by simp [Value.category]) (Nat.le_of_ble_eq_true rfl) rfl (fun sz => ?_)
  have bad : addV la x y = false → J0_add 1 l D ad kd [.int la, .int x, .int y] σ sz (fun r u => r = addR c la x y ∧ R0 (addC c la x y) (addQ c q la x y) u) σ 25 [some (.ref (ad 0)), some (.int la), some (.int x), some (.int y), none] [] := by
    intro h
    obtain ⟨b1, b2, b3⟩ := add_bad (c := c) (q := q) h
    refine g_bipush (v := -2) dX0_add_25 rfl ?_
    exact g_iret dX0_add_27 (⟨b1.symm, by rw [b2, b3]; exact hR⟩)
  refine g_il1 dX0_add_0 ?_
  refine g_if_lt (tgt := 25) dX0_add_1 (by decide) (fun c1 => ?_) (fun c1 => ?_)
  · exact bad (by unfold addV; rw [lay_f1 c1]; rfl)
  · refine g_il1 dX0_add_4 ?_
    refine g_iconst (v := nI 2) dX0_add_5 rfl ?_
    refine g_icmp_gt (tgt := 25) dX0_add_6 (by decide) (fun c6 => ?_) (fun c6 => ?_)
    · exact bad (by unfold addV; rw [lay_f2 c6]; rfl)
    · refine g_al0 dX0_add_9 ?_
      refine g_il2 dX0_add_10 ?_
      refine k0_35 dX0_add_11 (m0_isSpan x) (by decide) (Nat.le_of_ble_eq_true rfl) ?_
      rintro r u ⟨rfl, rfl⟩
      refine g_if_eq_b (tgt := 25) dX0_add_14 (by decide) (fun c14 => ?_) (fun c14 => ?_)
      · exact bad (by unfold addV; rw [c14, Bool.false_and, Bool.and_false])
      · refine g_al0 dX0_add_17 ?_
        refine g_il3 dX0_add_18 ?_
        refine k0_35 dX0_add_19 (m0_isSpan y) (by decide) (Nat.le_of_ble_eq_true rfl) ?_
        rintro r u ⟨rfl, rfl⟩
        refine g_if_ne_b (tgt := 28) dX0_add_22 (by decide) (fun c22 => ?_) (fun c22 => ?_)
        · have hV : addV la x y = true := by
            unfold addV
            rw [lay_t c1 c6, c14, c22]
            rfl
          obtain ⟨a, ha, rfl⟩ := nI_lay c1 c6
          obtain ⟨nx, hnx, rfl, x1, x2⟩ := spn_of c14
          obtain ⟨ny, hny, rfl, y1, y2⟩ := spn_of c22
          have hc := (hR.1 a ha).1
          refine g_al0 dX0_add_28 ?_
          refine g0_f7 dX0_add_29 ?_
          refine g_il1 dX0_add_32 ?_
          refine g0_ld1 dX0_add_33 (by omega) ?_
          refine g_top ((hR.2 a ha).1) ?_
          refine g_bipush (v := nI 10) dX0_add_34 rfl ?_
          refine g_icmp_lt_n (tgt := 42) dX0_add_36 (by decide) (by omega) (by omega) (fun c36 => ?_) (fun c36 => ?_)
          · obtain ⟨b1, b2, b3⟩ := add_ok (c := c) (q := q) (by omega) hnx hny hV c36
            refine g_bipush (v := nI 10) dX0_add_42 rfl ?_
            refine g_il1 dX0_add_44 ?_
            refine g_imul_n dX0_add_45 ?_
            refine g_al0 dX0_add_46 ?_
            refine g0_f7 dX0_add_47 ?_
            refine g_il1 dX0_add_50 ?_
            refine g0_ld1 dX0_add_51 (by omega) ?_
            refine g_top ((hR.2 a ha).1) ?_
            refine g_iadd_n dX0_add_52 ?_
            refine g_is4 dX0_add_53 ?_
            refine g_al0 dX0_add_55 ?_
            refine g0_f13 dX0_add_56 ?_
            refine g_il4 dX0_add_59 ?_
            refine g_il2 dX0_add_61 ?_
            refine g_iconst (v := nI 5) dX0_add_62 rfl ?_
            refine g_ishr dX0_add_63 ?_
            refine g_top (shr5 hnx) ?_
            refine g_i2b dX0_add_64 (i2b_n (by omega)) ?_
            refine g0_st2 dX0_add_65 (by omega) (nar_n (by omega)) ?_
            refine g_al0 dX0_add_66 ?_
            refine g0_f16 dX0_add_67 ?_
            refine g_il4 dX0_add_70 ?_
            refine g_il2 dX0_add_72 ?_
            refine g_bipush (v := nI 31) dX0_add_73 rfl ?_
            refine g_iand dX0_add_75 ?_
            refine g_top (and31 hnx) ?_
            refine g_i2b dX0_add_76 (i2b_n (by omega)) ?_
            refine g0_st3 dX0_add_77 (by omega) (nar_n (by omega)) ?_
            refine g_al0 dX0_add_78 ?_
            refine g0_f19 dX0_add_79 ?_
            refine g_il4 dX0_add_82 ?_
            refine g_iconst (v := nI 1) dX0_add_84 rfl ?_
            refine g_il3 dX0_add_85 ?_
            refine g_bipush (v := nI 31) dX0_add_86 rfl ?_
            refine g_iand dX0_add_88 ?_
            refine g_top (and31 hny) ?_
            refine g_ishl dX0_add_89 ?_
            refine g_iconst (v := nI 1) dX0_add_90 rfl ?_
            refine g_il3 dX0_add_91 ?_
            refine g_iconst (v := nI 5) dX0_add_92 rfl ?_
            refine g_ishr dX0_add_93 ?_
            refine g_top (shr5 hny) ?_
            refine g_ishl dX0_add_94 ?_
            refine g_isub dX0_add_95 ?_
            refine g0_st4 dX0_add_96 (by omega) ?_
            refine g_al0 dX0_add_97 ?_
            refine g0_f7 dX0_add_98 ?_
            refine g_il1 dX0_add_101 ?_
            refine g_dup2 dX0_add_102 rfl rfl ?_
            refine g0_ld1 dX0_add_103 (by omega) ?_
            refine g_top ((hR.2 a ha).1) ?_
            refine g_iconst (v := nI 1) dX0_add_104 rfl ?_
            refine g_iadd_n dX0_add_105 ?_
            refine g_i2b dX0_add_106 (i2b_n (by omega)) ?_
            refine g0_st1 dX0_add_107 (by omega) (nar_n (by omega)) ?_
            refine g_al0 dX0_add_108 ?_
            refine g0_f7 dX0_add_109 ?_
            refine g_il1 dX0_add_112 ?_
            refine g0_ld1 dX0_add_113 (by omega) ?_
            refine g_top (pk_us) ?_
            exact g_iret dX0_add_114 (⟨b1.symm, by rw [b2, b3]; exact R0_add hR ha c36 x1 x2 y1 y2 rfl rfl rfl rfl⟩)
          · obtain ⟨b1, b2, b3⟩ := add_full (c := c) (q := q) (by omega) hV c36
            refine g_bipush (v := -3) dX0_add_39 rfl ?_
            exact g_iret dX0_add_41 (⟨b1.symm, by rw [b2, b3]; exact hR⟩)
        · exact bad (by unfold addV; rw [c22, Bool.and_false, Bool.and_false])
theorem m0_drop (hR : R0 c q σ) (la : Int32) : C0_drop 0 l D ad kd [.int la] σ (fun r u => r = drpR c la ∧ R0 (drpC c la) (drpQ c q la) u) := by
  refine Con.of (lv := [some (.ref (ad 0)), some (.int la), none]) (by decide) rfl (Nat.le_of_ble_eq_true rfl) (by simp [Value.category]) (Nat.le_of_ble_eq_true rfl) rfl (fun sz => ?_)
  have bad : drpV c la = false → J0_drop 0 l D ad kd [.int la] σ sz (fun r u => r = drpR c la ∧ R0 (drpC c la) (drpQ c q la) u) σ 18 [some (.ref (ad 0)), some (.int la), none] [] := by
    intro h
    obtain ⟨b1, b2, b3⟩ := drp_bad (c := c) (q := q) h
    refine g_bipush (v := -2) dX0_drop_18 rfl ?_
    exact g_iret dX0_drop_20 (⟨b1.symm, by rw [b2, b3]; exact hR⟩)
  refine g_il1 dX0_drop_0 ?_
  refine g_if_lt (tgt := 18) dX0_drop_1 (by decide) (fun c1 => ?_) (fun c1 => ?_)
  · exact bad (by unfold drpV; rw [lay_f1 c1]; rfl)
  · refine g_il1 dX0_drop_4 ?_
    refine g_iconst (v := nI 2) dX0_drop_5 rfl ?_
    refine g_icmp_gt (tgt := 18) dX0_drop_6 (by decide) (fun c6 => ?_) (fun c6 => ?_)
    · exact bad (by unfold drpV; rw [lay_f2 c6]; rfl)
    · obtain ⟨a, ha, rfl⟩ := nI_lay c1 c6
      have hc := (hR.1 a ha).1
      refine g_al0 dX0_drop_9 ?_
      refine g0_f7 dX0_drop_10 ?_
      refine g_il1 dX0_drop_13 ?_
      refine g0_ld1 dX0_drop_14 (by omega) ?_
      refine g_top ((hR.2 a ha).1) ?_
      refine g_if_ne (tgt := 21) dX0_drop_15 (by decide) (fun c15 => ?_) (fun c15 => ?_)
      · have h0 : ¬ c a = 0 := fun h => c15 (by rw [h]; rfl)
        obtain ⟨b1, b2, b3⟩ := drp_ok (c := c) (q := q) ha h0
        have loop : ∀ (f k : Nat) (u : gS), c a - k < f → k ≤ c a - 1 → u 1 = upd (σ 1) a (nI (c a - 1)) → u 2 = shf (σ 2) a k → u 3 = shf (σ 3) a k → u 4 = shf (σ 4) a k → J0_drop 0 l D ad kd [.int (nI a)] σ sz (fun r u => r = drpR c (nI a) ∧ R0 (drpC c (nI a)) (drpQ c q (nI a)) u) u 37 [some (.ref (ad 0)), some (.int (nI a)), some (.int (nI (10 * a + k)))] [] := by
          intro f
          induction f with
          | zero => intro k u h; omega
          | succ f ih =>
            intro k u hf hk s1 s2 s3 s4
            refine g_il2 dX0_drop_37 ?_
            refine g_bipush (v := nI 10) dX0_drop_38 rfl ?_
            refine g_il1 dX0_drop_40 ?_
            refine g_imul_n dX0_drop_41 ?_
            refine g_al0 dX0_drop_42 ?_
            refine g0_f7 dX0_drop_43 ?_
            refine g_il1 dX0_drop_46 ?_
            refine g0_ld1 dX0_drop_47 (by omega) ?_
            refine g_top ((congrFun s1 a).trans pk_us) ?_
            refine g_iadd_n dX0_drop_48 ?_
            refine g_icmp_ge_n (tgt := 100) dX0_drop_49 (by decide) (by omega) (by omega) (fun c49 => ?_) (fun c49 => ?_)
            · have e : k = c a - 1 := by omega
              subst e
              refine g_al0 dX0_drop_100 ?_
              refine g0_f7 dX0_drop_101 ?_
              refine g_il1 dX0_drop_104 ?_
              refine g0_ld1 dX0_drop_105 (by omega) ?_
              refine g_top ((congrFun s1 a).trans pk_us) ?_
              exact g_iret dX0_drop_106 (⟨b1.symm, by rw [b2, b3]; exact R0_drp hR ha h0 s1 s2 s3 s4⟩)
            · obtain ⟨e21, e22⟩ : (∃ z, z < 128 ∧ u 2 (10 * a + k + 1) = nI z) ∧ (∃ z, z < 128 ∧ u 3 (10 * a + k + 1) = nI z) := by
                have g1 := (hR.1 a ha).2 (k + 1) (by omega)
                have g2 := (hR.2 a ha).2 (k + 1) (by omega)
                constructor
                · refine ⟨q 0 (10 * a + (k + 1)), by omega, ?_⟩
                  rw [s2, ← g2.1]
                  unfold shf
                  rw [if_neg (by omega)]
                  rfl
                · refine ⟨q 1 (10 * a + (k + 1)), by omega, ?_⟩
                  rw [s3, ← g2.2.1]
                  unfold shf
                  rw [if_neg (by omega)]
                  rfl
              obtain ⟨z2, hz2, e2⟩ := e21
              obtain ⟨z3, hz3, e3⟩ := e22
              refine g_al0 dX0_drop_52 ?_
              refine g0_f13 dX0_drop_53 ?_
              refine g_il2 dX0_drop_56 ?_
              refine g_al0 dX0_drop_57 ?_
              refine g0_f13 dX0_drop_58 ?_
              refine g_il2 dX0_drop_61 ?_
              refine g_iconst (v := nI 1) dX0_drop_62 rfl ?_
              refine g_iadd_n dX0_drop_63 ?_
              refine g0_ld2 dX0_drop_64 (by omega) ?_
              refine g_top (e2) ?_
              refine g0_st2 dX0_drop_65 (by omega) (nar_n (by omega)) ?_
              refine g_al0 dX0_drop_66 ?_
              refine g0_f16 dX0_drop_67 ?_
              refine g_il2 dX0_drop_70 ?_
              refine g_al0 dX0_drop_71 ?_
              refine g0_f16 dX0_drop_72 ?_
              refine g_il2 dX0_drop_75 ?_
              refine g_iconst (v := nI 1) dX0_drop_76 rfl ?_
              refine g_iadd_n dX0_drop_77 ?_
              refine g0_ld3 dX0_drop_78 (by omega) ?_
              refine g_top (e3) ?_
              refine g0_st3 dX0_drop_79 (by omega) (nar_n (by omega)) ?_
              refine g_al0 dX0_drop_80 ?_
              refine g0_f19 dX0_drop_81 ?_
              refine g_il2 dX0_drop_84 ?_
              refine g_al0 dX0_drop_85 ?_
              refine g0_f19 dX0_drop_86 ?_
              refine g_il2 dX0_drop_89 ?_
              refine g_iconst (v := nI 1) dX0_drop_90 rfl ?_
              refine g_iadd_n dX0_drop_91 ?_
              refine g0_ld4 dX0_drop_92 (by omega) ?_
              refine g0_st4 dX0_drop_93 (by omega) ?_
              refine g_ic2_n dX0_drop_94 ?_
              refine g_goto (tgt := 37) dX0_drop_97 (by decide) ?_
              refine ih (k + 1) _ (by omega) (by omega) s1 ?_ ?_ ?_
              · show upd (u 2) (10 * a + k) (nI z2) = _
                rw [← e2, s2, shf_s]
              · show upd (u 3) (10 * a + k) (nI z3) = _
                rw [← e3, s3, shf_s]
              · show upd (u 4) (10 * a + k) (u 4 (10 * a + k + 1)) = _
                rw [s4, shf_s]
        refine g_al0 dX0_drop_21 ?_
        refine g0_f7 dX0_drop_22 ?_
        refine g_il1 dX0_drop_25 ?_
        refine g_dup2 dX0_drop_26 rfl rfl ?_
        refine g0_ld1 dX0_drop_27 (by omega) ?_
        refine g_top ((hR.2 a ha).1) ?_
        refine g_iconst (v := nI 1) dX0_drop_28 rfl ?_
        refine g_isub_n dX0_drop_29 (by omega) ?_
        refine g_i2b dX0_drop_30 (i2b_n (by omega)) ?_
        refine g0_st1 dX0_drop_31 (by omega) (nar_n (by omega)) ?_
        refine g_bipush (v := nI 10) dX0_drop_32 rfl ?_
        refine g_il1 dX0_drop_34 ?_
        refine g_imul_n dX0_drop_35 ?_
        refine g_is2 dX0_drop_36 ?_
        exact loop (c a + 1) 0 _ (by omega) (by omega) rfl (shf_0 _ _).symm (shf_0 _ _).symm (shf_0 _ _).symm
      · exact bad (drpV_0 ha ((nI_eq (by omega) (by omega)).mp (c15.trans nI_0.symm)))
end ADD0
end
section
set_option maxRecDepth 100000
/-! DrcScan: covers, sweep -/
def rng (x : Int32) : Bool := !(decide (x < 0)) && !(decide (nI 15 < x))
theorem rng_t {x : Int32} (h1 : ¬ x < 0) (h2 : ¬ nI 15 < x) : rng x = true := by
  unfold rng
  rw [decide_eq_false h1, decide_eq_false h2]
  rfl
theorem rng_f1 {x : Int32} (h1 : x < 0) : rng x = false := by
  unfold rng
  rw [decide_eq_true h1]
  rfl
theorem rng_f2 {x : Int32} (h1 : nI 15 < x) : rng x = false := by
  unfold rng
  rw [decide_eq_true h1, Bool.not_true, Bool.and_false]
theorem rng_n {x : Int32} (h1 : ¬ x < 0) (h2 : ¬ nI 15 < x) : ∃ a : Nat, a < 16 ∧ x = nI a := by
  obtain ⟨j, hj, rfl⟩ := nI_of h1
  have := mt (nI_ltI (a := 15) (b := j) (by omega) hj).mpr h2
  exact ⟨j, by omega, rfl⟩
def covB (c : Nat → Nat) (q : Nat → Nat → Nat) (la i j : Int32) : Bool := lay la && (rng i && (rng j && has c q la.toNatClampNeg i.toNatClampNeg j.toNatClampNeg))
/-! lines -/
def lneB (c : Nat → Nat) (q : Nat → Nat → Nat) (a x : Nat) : Bool := anyB (fun k => decide (x = q 0 (10 * a + k)) || decide (x = q 1 (10 * a + k))) (c a)
def lnB (c : Nat → Nat) (q : Nat → Nat → Nat) (a b x : Nat) : Bool := ((lneB c q a x || lneB c q b x) || decide (x = 0)) || decide (x = 16)
theorem b_65536 : ∀ i, i < 32 → bt 65536 i = decide (i = 16) := by decide +kernel
theorem anyB_cong {f g : Nat → Bool} : ∀ {n : Nat}, (∀ k, k < n → f k = g k) → anyB f n = anyB g n
  | 0, _ => rfl
  | n + 1, h => by rw [anyB_succ, anyB_succ, anyB_cong (fun k hk => h k (by omega)), h n (by omega)]
/-- between two lines a layer's columns are alike -/
theorem has_cut {c : Nat → Nat} {q : Nat → Nat → Nat} {a x i : Nat} (hxi : x ≤ i) (h : ∀ z, x < z → z ≤ i → lneB c q a z = false) (j : Nat) : has c q a i j = has c q a x j := by
  unfold has
  refine anyB_cong fun k hk => ?_
  have no : ∀ z, (z = q 0 (10 * a + k) ∨ z = q 1 (10 * a + k)) → ¬ (x < z ∧ z ≤ i) := by
    intro z hz ⟨z1, z2⟩
    have h1 := h z z1 z2
    have h2 : lneB c q a z = true := anyB_iff.mpr ⟨k, hk, by rcases hz with e | e <;> simp [← e]⟩
    rw [h1] at h2
    cases h2
  have n0 := no _ (Or.inl rfl)
  have n1 := no _ (Or.inr rfl)
  unfold hasR
  rw [show decide (q 0 (10 * a + k) ≤ i) = decide (q 0 (10 * a + k) ≤ x) from decide_eq_decide.mpr (by omega), show decide (i < q 1 (10 * a + k)) = decide (x < q 1 (10 * a + k)) from decide_eq_decide.mpr (by omega)]
theorem gg_cut {c : Nat → Nat} {q : Nat → Nat → Nat} {a b x i : Nat} (hxi : x ≤ i) (h : ∀ z, x < z → z ≤ i → lnB c q a b z = false) (w j : Nat) : gg c q w a b i j = gg c q w a b x j := by
  have h1 : ∀ z, x < z → z ≤ i → lneB c q a z = false ∧ lneB c q b z = false := by
    intro z z1 z2
    have := h z z1 z2
    unfold lnB at this
    simp only [Bool.or_eq_false_iff] at this
    exact ⟨this.1.1.1, this.1.1.2⟩
  unfold gg
  rw [has_cut hxi (fun z z1 z2 => (h1 z z1 z2).1) j, has_cut hxi (fun z z1 z2 => (h1 z z1 z2).2) j]
/-- the lines below x, m of them, at X 0, X 1 .. -/
def Ct (ln : Nat → Bool) (x m : Nat) (X : Nat → Nat) : Prop := 1 ≤ m ∧ m ≤ x ∧ X 0 = 0 ∧ (∀ k, k + 1 < m → X k < X (k + 1) ∧ ∀ i, X k < i → i < X (k + 1) → ln i = false) ∧ X (m - 1) < x ∧ ∀ i, X (m - 1) < i → i < x → ln i = false
theorem Ct_skip {ln : Nat → Bool} {x m : Nat} {X : Nat → Nat} (h : Ct ln x m X) (hx : ln x = false) : Ct ln (x + 1) m X := by
  obtain ⟨h1, h2, h3, h4, h5, h6⟩ := h
  refine ⟨h1, by omega, h3, h4, by omega, fun i i1 i2 => ?_⟩
  rcases Nat.lt_or_ge i x with z | z
  · exact h6 i i1 z
  · rw [show i = x by omega]
    exact hx
theorem Ct_put {ln : Nat → Bool} {x m : Nat} {X : Nat → Nat} (h : Ct ln x m X) : Ct ln (x + 1) (m + 1) (fun k => if k = m then x else X k) := by
  obtain ⟨h1, h2, h3, h4, h5, h6⟩ := h
  refine ⟨by omega, by omega, ?_, fun k hk => ?_, ?_, ?_⟩
  · show (if 0 = m then x else X 0) = 0
    rw [if_neg (by omega), h3]
  · show (if k = m then x else X k) < (if k + 1 = m then x else X (k + 1)) ∧ ∀ i, (if k = m then x else X k) < i → i < (if k + 1 = m then x else X (k + 1)) → ln i = false
    rw [if_neg (by omega)]
    by_cases e : k + 1 = m
    · rw [if_pos e, show k = m - 1 by omega]
      exact ⟨h5, h6⟩
    · rw [if_neg e]
      exact h4 k (by omega)
  · show (if m + 1 - 1 = m then x else X (m + 1 - 1)) < x + 1
    rw [if_pos (by omega)]
    omega
  · intro i i1 i2
    have i1 : (if m + 1 - 1 = m then x else X (m + 1 - 1)) < i := i1
    rw [if_pos (by omega)] at i1
    omega
/-- what a sweep leaves: n strips, strip k from X k to X (k + 1), its rows those of the grid in each of its columns -/
def Swp (g : Nat → Nat → Bool) (n : Nat) (X : Nat → Nat) (u : gS) : Prop := u 9 0 = nI n ∧ 1 ≤ n ∧ n ≤ 16 ∧ (∀ k, k ≤ n → u 5 k = nI (X k)) ∧ X 0 = 0 ∧ X n = 16 ∧ (∀ k, k < n → X k < X (k + 1)) ∧ ∀ k, k < n → ∀ i, X k ≤ i → i < X (k + 1) → ∀ j, j < 32 → bt (u 6 k) j = g i j
section SWP0
variable {l : Launch} {D : va_G} {ad : Nat → Nat} {kd : Nat → ClassId} {σ : gS} {c : Nat → Nat} {q : Nat → Nat → Nat}
theorem m0_covers (hR : R0 c q σ) (la i j : Int32) : C0_covers 1 l D ad kd [.int la, .int i, .int j] σ (fun r u => r = bI (covB c q la i j) ∧ R0 c q u) := by
  refine Con.of (lv := [some (.ref (ad 0)), some (.int la), some (.int i), some (.int j)]) (by decide) rfl (Nat.le_of_ble_eq_true rfl) (by simp [Value.category]) (Nat.le_of_ble_eq_true rfl) rfl (fun sz => ?_)
  have bad : covB c q la i j = false → J0_covers 1 l D ad kd [.int la, .int i, .int j] σ sz (fun r u => r = bI (covB c q la i j) ∧ R0 c q u) σ 28 [some (.ref (ad 0)), some (.int la), some (.int i), some (.int j)] [] := by
    intro h
    refine g_iconst (v := nI 0) dX0_covers_28 rfl ?_
    exact g_zret dX0_covers_29 rfl (⟨by rw [h]; rfl, hR⟩)
  refine g_al0 dX0_covers_0 ?_
  refine g_il1 dX0_covers_1 ?_
  refine k0_39 dX0_covers_2 (m0_isLayer la) (by decide) (Nat.le_of_ble_eq_true rfl) ?_
  rintro r u ⟨hu, rfl⟩
  rw [hu]
  refine g_if_eq_b (tgt := 28) dX0_covers_5 (by decide) (fun c5 => ?_) (fun c5 => ?_)
  · exact bad (by unfold covB; rw [c5]; rfl)
  · refine g_il2 dX0_covers_8 ?_
    refine g_if_lt (tgt := 28) dX0_covers_9 (by decide) (fun c9 => ?_) (fun c9 => ?_)
    · exact bad (by unfold covB; rw [rng_f1 c9, Bool.false_and, Bool.and_false])
    · refine g_il2 dX0_covers_12 ?_
      refine g_bipush (v := nI 15) dX0_covers_13 rfl ?_
      refine g_icmp_gt (tgt := 28) dX0_covers_15 (by decide) (fun c15 => ?_) (fun c15 => ?_)
      · exact bad (by unfold covB; rw [rng_f2 c15, Bool.false_and, Bool.and_false])
      · refine g_il3 dX0_covers_18 ?_
        refine g_if_lt (tgt := 28) dX0_covers_19 (by decide) (fun c19 => ?_) (fun c19 => ?_)
        · exact bad (by unfold covB; rw [rng_f1 c19, Bool.false_and, Bool.and_false, Bool.and_false])
        · refine g_il3 dX0_covers_22 ?_
          refine g_bipush (v := nI 15) dX0_covers_23 rfl ?_
          refine g_icmp_le (tgt := 30) dX0_covers_25 (by decide) (fun c25 => ?_) (fun c25 => ?_)
          · have c25 : ¬ nI 15 < j := Int32.not_lt.mpr c25
            obtain ⟨a, ha, rfl⟩ := lay_n c5
            obtain ⟨ni, hni, ei⟩ := rng_n c9 c15
            obtain ⟨nj, hnj, ej⟩ := rng_n c19 c25
            have hv : covB c q (nI a) i j = has c q a ni nj := by
              unfold covB
              rw [c5, rng_t c9 c15, rng_t c19 c25, nI_clamp (by omega), ei, ej, nI_clamp (by omega), nI_clamp (by omega)]
              rfl
            rw [hv]
            rw [ei, ej]
            refine g_al0 dX0_covers_30 ?_
            refine g_il1 dX0_covers_31 ?_
            refine g_il2 dX0_covers_32 ?_
            refine k0_42 dX0_covers_33 (m0_rowsAt hR ha (by omega)) (by decide) (Nat.le_of_ble_eq_true rfl) ?_
            rintro r u ⟨hu, hr⟩
            rw [hu]
            refine g_il3 dX0_covers_36 ?_
            refine g_ishr dX0_covers_37 ?_
            refine g_iconst (v := nI 1) dX0_covers_38 rfl ?_
            refine g_iand dX0_covers_39 ?_
            refine g_top ((b_at (by omega)).trans (congrArg bI (hr nj (by omega)))) ?_
            refine g_if_eq_b (tgt := 47) dX0_covers_40 (by decide) (fun c40 => ?_) (fun c40 => ?_)
            · refine g_iconst (v := nI 0) dX0_covers_47 rfl ?_
              exact g_zret dX0_covers_48 rfl (⟨by rw [c40]; rfl, hR⟩)
            · refine g_iconst (v := nI 1) dX0_covers_43 rfl ?_
              refine g_goto (tgt := 48) dX0_covers_44 (by decide) ?_
              exact g_zret dX0_covers_48 rfl (⟨by rw [c40]; rfl, hR⟩)
          · exact bad (by unfold covB; rw [rng_f2 (Int32.not_le.mp c25), Bool.false_and, Bool.and_false, Bool.and_false])
theorem m0_sweep (hR : R0 c q σ) {h a b : Nat} (hh : h < 3) (ha : a < 3) (hb : b < 3) : C0_sweep 1 l D ad kd [.int (nI h), .int (nI a), .int (nI b)] σ (fun u => R0 c q u ∧ ∃ n X, Swp (gg c q h a b) n X u) := by
  refine ConV.of (lv := [some (.ref (ad 0)), some (.int (nI h)), some (.int (nI a)), some (.int (nI b)), none, none, none, none]) (by decide) rfl (Nat.le_of_ble_eq_true rfl) (by simp [Value.category]) (Nat.le_of_ble_eq_true rfl) rfl (fun sz => ?_)
  have part2 : ∀ (lines : Int32) (w5 : Option Value) (u : gS) (m : Nat) (X : Nat → Nat), R0 c q u → Ct (lnB c q a b) 17 m X → u 9 0 = nI (m - 1) → (∀ k, k < m → u 5 k = nI (X k)) → J0_sweep 1 l D ad kd [.int (nI h), .int (nI a), .int (nI b)] σ sz (fun u => R0 c q u ∧ ∃ n X, Swp (gg c q h a b) n X u) u 74 [some (.ref (ad 0)), some (.int (nI h)), some (.int (nI a)), some (.int (nI b)), some (.int lines), w5, none, none] [] := by
    intro lines w5 u m X hR hC h9 h5
    obtain ⟨d1, d2, d3, d4, d5, d6⟩ := hC
    have hlast : X (m - 1) = 16 := by
      rcases Nat.lt_or_ge (X (m - 1)) 16 with z | z
      · have := d6 16 z (by omega)
        unfold lnB at this
        simp at this
      · omega
    have hm2 : 2 ≤ m := by
      rcases Nat.lt_or_ge 1 m with z | z
      · exact z
      · rw [show m - 1 = 0 by omega, d3] at hlast
        omega
    have hle : ∀ k, k < m → X k ≤ 16 := by
      intro k hk
      have : ∀ t, t < m → X (m - 1 - t) ≤ 16 := by
        intro t
        induction t with
        | zero => intro _; rw [Nat.sub_zero, hlast]; exact Nat.le_refl _
        | succ t ih =>
          intro ht
          have h1 := ih (by omega)
          have h2 := (d4 (m - 1 - (t + 1)) (by omega)).1
          rw [show m - 1 - (t + 1) + 1 = m - 1 - t by omega] at h2
          omega
      have h3 := this (m - 1 - k) (by omega)
      rwa [show m - 1 - (m - 1 - k) = k by omega] at h3
    have loop : ∀ (f k : Nat) (w6 w7 : Option Value) (u : gS), m - 1 - k < f → k ≤ m - 1 → R0 c q u → u 9 0 = nI (m - 1) → (∀ k, k < m → u 5 k = nI (X k)) → (∀ z, z < k → ∀ j, j < 32 → bt (u 6 z) j = gg c q h a b (X z) j) → J0_sweep 1 l D ad kd [.int (nI h), .int (nI a), .int (nI b)] σ sz (fun u => R0 c q u ∧ ∃ n X, Swp (gg c q h a b) n X u) u 77 [some (.ref (ad 0)), some (.int (nI h)), some (.int (nI a)), some (.int (nI b)), some (.int lines), some (.int (nI k)), w6, w7] [] := by
      intro f
      induction f with
      | zero => intro k w6 w7 u z; omega
      | succ f ih =>
        intro k w6 w7 u hf hk hR h9 h5 h6
        refine g_il5 dX0_sweep_77 ?_
        refine g_al0 dX0_sweep_79 ?_
        refine g0_f50 dX0_sweep_80 ?_
        refine g_top (h9) ?_
        refine g_icmp_ge_n (tgt := 159) dX0_sweep_83 (by decide) (by omega) (by omega) (fun c83 => ?_) (fun c83 => ?_)
        · exact g_vret dX0_sweep_159 (⟨hR, m - 1, X, h9, by omega, by omega, fun k hk => h5 k (by omega), d3, hlast, fun k hk => (d4 k (by omega)).1, fun z hz i i1 i2 j hj => by rw [h6 z (by omega) j hj]; exact (gg_cut i1 (fun y y1 y2 => (d4 z (by omega)).2 y y1 (by omega)) h j).symm⟩)
        · have hX := hle k (by omega)
          refine g_al0 dX0_sweep_86 ?_
          refine g_il2 dX0_sweep_87 ?_
          refine g_al0 dX0_sweep_88 ?_
          refine g0_f23 dX0_sweep_89 ?_
          refine g_il5 dX0_sweep_92 ?_
          refine g0_ld5 dX0_sweep_94 (by omega) ?_
          refine g_top (h5 k (by omega)) ?_
          refine k0_42 dX0_sweep_95 (m0_rowsAt hR ha (by omega)) (by decide) (Nat.le_of_ble_eq_true rfl) ?_
          rintro vp u2 ⟨hu, hp⟩
          rw [hu]
          clear hu
          refine g_is6 dX0_sweep_98 ?_
          refine g_al0 dX0_sweep_100 ?_
          refine g_il3 dX0_sweep_101 ?_
          refine g_al0 dX0_sweep_102 ?_
          refine g0_f23 dX0_sweep_103 ?_
          refine g_il5 dX0_sweep_106 ?_
          refine g0_ld5 dX0_sweep_108 (by omega) ?_
          refine g_top (h5 k (by omega)) ?_
          refine k0_42 dX0_sweep_109 (m0_rowsAt hR hb (by omega)) (by decide) (Nat.le_of_ble_eq_true rfl) ?_
          rintro vq u2 ⟨hu, hq⟩
          rw [hu]
          clear hu
          have fin : ∀ v : Int32, (∀ j, j < 32 → bt v j = gg c q h a b (X k) j) → J0_sweep 1 l D ad kd [.int (nI h), .int (nI a), .int (nI b)] σ sz (fun u => R0 c q u ∧ ∃ n X, Swp (gg c q h a b) n X u) u 152 [some (.ref (ad 0)), some (.int (nI h)), some (.int (nI a)), some (.int (nI b)), some (.int lines), some (.int (nI k)), some (.int vp), some (.int vq)] [.int v, .int (nI k), .ref (ad 6)] := by
            intro v hv
            refine g0_st6 dX0_sweep_152 (by omega) ?_
            refine g_ic5_n dX0_sweep_153 ?_
            refine g_goto (tgt := 77) dX0_sweep_156 (by decide) ?_
            refine ih (k + 1) _ _ _ (by omega) (by omega) (hR.to rfl rfl rfl rfl) h9 h5 (fun z hz j hj => ?_)
            show bt (upd (u 6) k v z) j = _
            rcases Nat.lt_or_ge z k with e | e
            · rw [pk_un (by omega)]
              exact h6 z e j hj
            · rw [show z = k by omega, pk_us]
              exact hv j hj
          refine g_is7 dX0_sweep_112 ?_
          refine g_al0 dX0_sweep_114 ?_
          refine g0_f26 dX0_sweep_115 ?_
          refine g_il5 dX0_sweep_118 ?_
          refine g_il1 dX0_sweep_120 ?_
          refine g_if_ne (tgt := 132) dX0_sweep_121 (by decide) (fun c121 => ?_) (fun c121 => ?_)
          · refine g_il1 dX0_sweep_132 ?_
            refine g_iconst (v := nI 1) dX0_sweep_133 rfl ?_
            refine g_icmp_ne_n (tgt := 145) dX0_sweep_134 (by decide) (by omega) (by omega) (fun c134 => ?_) (fun c134 => ?_)
            · refine g_il6 dX0_sweep_145 ?_
              refine g_il7 dX0_sweep_147 ?_
              refine g_iconst (v := -1) dX0_sweep_149 rfl ?_
              refine g_ixor dX0_sweep_150 ?_
              refine g_iand dX0_sweep_151 ?_
              refine fin _ (fun j hj => ?_)
              have e0 : ¬ h = 0 := fun e => c121 (by rw [e]; rfl)
              have e2 : h = 2 := by omega
              rw [b_and, b_not _ hj, hp j hj, hq j hj]
              unfold gg
              rw [e2]
              rfl
            · refine g_il6 dX0_sweep_137 ?_
              refine g_il7 dX0_sweep_139 ?_
              refine g_ior dX0_sweep_141 ?_
              refine g_goto (tgt := 152) dX0_sweep_142 (by decide) ?_
              refine fin _ (fun j hj => ?_)
              rw [b_or, hp j hj, hq j hj]
              unfold gg
              rw [c134]
              rfl
          · refine g_il6 dX0_sweep_124 ?_
            refine g_il7 dX0_sweep_126 ?_
            refine g_iand dX0_sweep_128 ?_
            refine g_goto (tgt := 152) dX0_sweep_129 (by decide) ?_
            refine fin _ (fun j hj => ?_)
            have e0 : h = 0 := (nI_eq (by omega) (by omega)).mp (c121.trans nI_0.symm)
            rw [b_and, hp j hj, hq j hj]
            unfold gg
            rw [e0]
            rfl
    refine g_iconst (v := nI 0) dX0_sweep_74 rfl ?_
    refine g_is5 dX0_sweep_75 ?_
    exact loop 17 0 none none u (by omega) (by omega) hR h9 h5 (fun z hz => absurd hz (Nat.not_lt_zero z))
  have loop1 : ∀ (f x : Nat) (lines : Int32) (u : gS) (m : Nat) (X : Nat → Nat), 17 - x < f → x ≤ 17 → R0 c q u → (∀ j, j < 32 → bt lines j = lnB c q a b j) → Ct (lnB c q a b) x m X → u 9 0 = nI (m - 1) → (∀ k, k < m → u 5 k = nI (X k)) → J0_sweep 1 l D ad kd [.int (nI h), .int (nI a), .int (nI b)] σ sz (fun u => R0 c q u ∧ ∃ n X, Swp (gg c q h a b) n X u) u 26 [some (.ref (ad 0)), some (.int (nI h)), some (.int (nI a)), some (.int (nI b)), some (.int lines), some (.int (nI x)), none, none] [] := by
    intro f
    induction f with
    | zero => intro x lines u m X z; omega
    | succ f ih =>
      intro x lines u m X hf hx hR hln hC h9 h5
      have hm1 := hC.1
      have hm2 := hC.2.1
      refine g_il5 dX0_sweep_26 ?_
      refine g_bipush (v := nI 16) dX0_sweep_28 rfl ?_
      refine g_icmp_gt_n (tgt := 74) dX0_sweep_30 (by decide) (by omega) (by omega) (fun c30 => ?_) (fun c30 => ?_)
      · have e : x = 17 := by omega
        subst e
        exact part2 lines _ u m X hR hC h9 h5
      · refine g_il4 dX0_sweep_33 ?_
        refine g_il5 dX0_sweep_35 ?_
        refine g_ishr dX0_sweep_37 ?_
        refine g_iconst (v := nI 1) dX0_sweep_38 rfl ?_
        refine g_iand dX0_sweep_39 ?_
        refine g_top ((b_at (by omega)).trans (congrArg bI (hln x (by omega)))) ?_
        refine g_if_ne_b (tgt := 46) dX0_sweep_40 (by decide) (fun c40 => ?_) (fun c40 => ?_)
        · refine g_al0 dX0_sweep_46 ?_
          refine g_dup dX0_sweep_47 rfl ?_
          refine g0_f50 dX0_sweep_48 ?_
          refine g_top (h9) ?_
          refine g_iconst (v := nI 1) dX0_sweep_51 rfl ?_
          refine g_iadd_n dX0_sweep_52 ?_
          refine g0_p50 dX0_sweep_53 ?_
          refine g_al0 dX0_sweep_56 ?_
          refine g0_f23 dX0_sweep_57 ?_
          refine g_al0 dX0_sweep_60 ?_
          refine g0_f50 dX0_sweep_61 ?_
          refine g_top (show nI (m - 1 + 1) = nI m from congrArg nI (by omega)) ?_
          refine g_il5 dX0_sweep_64 ?_
          refine g_i2b dX0_sweep_66 (i2b_n (by omega)) ?_
          refine g0_st5 dX0_sweep_67 (by omega) (nar_n (by omega)) ?_
          refine g_ic5_n dX0_sweep_68 ?_
          refine g_goto (tgt := 26) dX0_sweep_71 (by decide) ?_
          refine ih (x + 1) lines _ (m + 1) _ (by omega) (by omega) (hR.to rfl rfl rfl rfl) hln (Ct_put hC) ?_ (fun k hk => ?_)
          · show nI (m - 1 + 1) = nI (m + 1 - 1)
            exact congrArg nI (by omega)
          · show upd (u 5) m (nI x) k = nI (if k = m then x else X k)
            by_cases e : k = m
            · rw [if_pos e, e, pk_us]
            · rw [if_neg e, pk_un e]
              exact h5 k (by omega)
        · refine g_goto (tgt := 68) dX0_sweep_43 (by decide) ?_
          refine g_ic5_n dX0_sweep_68 ?_
          refine g_goto (tgt := 26) dX0_sweep_71 (by decide) ?_
          exact ih (x + 1) lines u m X (by omega) (by omega) hR hln (Ct_skip hC c40) h9 h5
  refine g_al0 dX0_sweep_0 ?_
  refine g_il2 dX0_sweep_1 ?_
  refine k0_80 dX0_sweep_2 (m0_linesOf hR ha) (by decide) (Nat.le_of_ble_eq_true rfl) ?_
  rintro r1 u ⟨hu, h1⟩
  rw [hu]
  clear hu
  refine g_al0 dX0_sweep_5 ?_
  refine g_il3 dX0_sweep_6 ?_
  refine k0_80 dX0_sweep_7 (m0_linesOf hR hb) (by decide) (Nat.le_of_ble_eq_true rfl) ?_
  rintro r2 u ⟨hu, h2⟩
  rw [hu]
  clear hu
  refine g_ior dX0_sweep_10 ?_
  refine g_iconst (v := nI 1) dX0_sweep_11 rfl ?_
  refine g_ior dX0_sweep_12 ?_
  refine g_ldc q98 dX0_sweep_13 ?_
  refine g_ior dX0_sweep_15 ?_
  have hln : ∀ j, j < 32 → bt (r1 ||| r2 ||| nI 1 ||| 65536) j = lnB c q a b j := by
    intro j hj
    rw [b_or, b_or, b_or, h1 j hj, h2 j hj, b_one j hj, b_65536 j hj]
    rfl
  generalize r1 ||| r2 ||| nI 1 ||| 65536 = lines at hln ⊢
  refine g_is4 dX0_sweep_16 ?_
  refine g_al0 dX0_sweep_18 ?_
  refine g_iconst (v := -1) dX0_sweep_19 rfl ?_
  refine g0_p50 dX0_sweep_20 ?_
  refine g_iconst (v := nI 0) dX0_sweep_23 rfl ?_
  refine g_is5 dX0_sweep_24 ?_
  refine g_il5 dX0_sweep_26 ?_
  refine g_bipush (v := nI 16) dX0_sweep_28 rfl ?_
  refine g_icmp_gt_n (tgt := 74) dX0_sweep_30 (by decide) (by omega) (by omega) (fun c30 => ?_) (fun c30 => ?_)
  · omega
  · refine g_il4 dX0_sweep_33 ?_
    refine g_il5 dX0_sweep_35 ?_
    refine g_ishr dX0_sweep_37 ?_
    refine g_iconst (v := nI 1) dX0_sweep_38 rfl ?_
    refine g_iand dX0_sweep_39 ?_
    refine g_top ((b_at (by omega)).trans (congrArg bI (hln 0 (by omega)))) ?_
    refine g_if_ne_b (tgt := 46) dX0_sweep_40 (by decide) (fun c40 => ?_) (fun c40 => ?_)
    · refine g_al0 dX0_sweep_46 ?_
      refine g_dup dX0_sweep_47 rfl ?_
      refine g0_f50 dX0_sweep_48 ?_
      refine g_iconst (v := nI 1) dX0_sweep_51 rfl ?_
      refine g_iadd dX0_sweep_52 ?_
      refine g_top (show (-1 : Int32) + nI 1 = nI 0 by decide) ?_
      refine g0_p50 dX0_sweep_53 ?_
      refine g_al0 dX0_sweep_56 ?_
      refine g0_f23 dX0_sweep_57 ?_
      refine g_al0 dX0_sweep_60 ?_
      refine g0_f50 dX0_sweep_61 ?_
      refine g_top (show nI 0 = nI 0 from rfl) ?_
      refine g_il5 dX0_sweep_64 ?_
      refine g_i2b dX0_sweep_66 (i2b_n (by omega)) ?_
      refine g0_st5 dX0_sweep_67 (by omega) (nar_n (by omega)) ?_
      refine g_ic5_n dX0_sweep_68 ?_
      refine g_goto (tgt := 26) dX0_sweep_71 (by decide) ?_
      refine loop1 17 1 lines _ 1 (fun _ => 0) (by omega) (by omega) (hR.to rfl rfl rfl rfl) hln ⟨by omega, by omega, rfl, fun k hk => by omega, Nat.one_pos, fun i i1 i2 => by have i1 : 0 < i := i1; omega⟩ rfl (fun k hk => ?_)
      rw [show k = 0 by omega]
      show upd (σ 5) 0 (nI 0) 0 = nI 0
      exact pk_us
    · unfold lnB at c40
      simp at c40
end SWP0
end
section
set_option maxRecDepth 100000
/-! DrcScan: area, outline, corners. The grid is g; g i j is false outside sixteen by sixteen -/
def cmbR (f : (Nat → Nat → Bool) → Nat) (c : Nat → Nat) (q : Nat → Nat → Nat) (how la lb : Int32) : Int32 := if (lay how && (lay la && lay lb)) = true then nI (f (gg c q how.toNatClampNeg la.toNatClampNeg lb.toNatClampNeg)) else -2
theorem cmbR_ok {f : (Nat → Nat → Bool) → Nat} {c : Nat → Nat} {q : Nat → Nat → Nat} {h a b : Nat} (hh : h < 3) (ha : a < 3) (hb : b < 3) : cmbR f c q (nI h) (nI a) (nI b) = nI (f (gg c q h a b)) := by
  unfold cmbR
  rw [lay_nI hh, lay_nI ha, lay_nI hb, nI_clamp (by omega), nI_clamp (by omega), nI_clamp (by omega)]
  rfl
def pv (f : Nat → Bool) : Nat → Bool
  | 0 => false
  | j + 1 => f j
def pvx (g : Nat → Nat → Bool) (x j : Nat) : Bool := match x with
  | 0 => false
  | x + 1 => g x j
def colN (g : Nat → Nat → Bool) (i : Nat) : Nat := sm (fun j => tn (g i j)) 18
def edgX (g : Nat → Nat → Bool) (x : Nat) : Nat := sm (fun j => tn (pvx g x j ^^ g x j)) 18
def edgY (g : Nat → Nat → Bool) (i : Nat) : Nat := sm (fun j => tn (g i j ^^ pv (g i) j)) 18
def crn (g : Nat → Nat → Bool) (x : Nat) : Nat := sm (fun j => tn ((pvx g x j ^^ g x j) ^^ (pv (pvx g x) j ^^ pv (g x) j))) 18
def sArea (g : Nat → Nat → Bool) : Nat := sm (colN g) 16
def sOutl (g : Nat → Nat → Bool) : Nat := sm (edgX g) 17 + sm (edgY g) 16
def sCorn (g : Nat → Nat → Bool) : Nat := sm (crn g) 17
theorem bits_of {x : Int32} {f : Nat → Bool} (h : ∀ j, j < 18 → bt x j = f j) : bits x = sm (fun j => tn (f j)) 18 := sm_cong fun j hj => by rw [h j hj]
theorem sm_strip {f : Nat → Nat} {x y v : Nat} (hxy : x ≤ y) (h : ∀ i, x ≤ i → i < y → f i = v) : sm f y = sm f x + (y - x) * v := by
  have e : y = x + (y - x) := by omega
  rw [e, sm_split, show x + (y - x) - x = y - x by omega, sm_cong (g := fun _ => v) (fun k hk => h (x + k) (by omega) (by omega)), sm_const]
theorem sm_one {f : Nat → Nat} {x y v : Nat} (hxy : x < y) (h0 : f x = v) (h : ∀ i, x < i → i < y → f i = 0) : sm f y = sm f x + v := by
  have e : y = (x + 1) + (y - (x + 1)) := by omega
  rw [e, sm_split, sm_succ, h0, sm_zero (fun k hk => h (x + 1 + k) (by omega) (by omega)), Nat.add_zero]
theorem Xle {n : Nat} {X : Nat → Nat} (Xn : X n = 16) (Xs : ∀ k, k < n → X k < X (k + 1)) : ∀ k, k ≤ n → X k ≤ 16 := by
  have : ∀ t, t ≤ n → X (n - t) ≤ 16 := by
    intro t
    induction t with
    | zero => intro _; rw [Nat.sub_zero, Xn]; exact Nat.le_refl _
    | succ t ih =>
      intro ht
      have h1 := ih (by omega)
      have h2 := Xs (n - (t + 1)) (by omega)
      rw [show n - (t + 1) + 1 = n - t by omega] at h2
      omega
  intro k hk
  have h3 := this (n - k) (by omega)
  rwa [show n - (n - k) = k by omega] at h3
theorem b_sh1 (s : Int32) {j : Nat} (hj : j < 32) {f : Nat → Bool} (h : ∀ j, j < 32 → bt s j = f j) : bt (s <<< (nI 1 &&& 31)) j = pv f j := by
  rw [b_shl 1 (by omega) s hj]
  cases j with
  | zero => rfl
  | succ j =>
    rw [decide_eq_true (by omega), Bool.true_and, h _ (by omega)]
    rfl
theorem pvx_next {g : Nat → Nat → Bool} {x y : Nat} {s : Int32} (hxy : x < y) (h : ∀ i, x ≤ i → i < y → ∀ j, j < 32 → bt s j = g i j) (j : Nat) (hj : j < 32) : bt s j = pvx g y j := by
  cases y with
  | zero => omega
  | succ y => exact h y (by omega) (by omega) j hj
theorem pvx_in {g : Nat → Nat → Bool} {x y : Nat} {s : Int32} (h : ∀ i, x ≤ i → i < y → ∀ j, j < 32 → bt s j = g i j) (i : Nat) (h1 : x < i) (h2 : i < y) (j : Nat) (hj : j < 32) : pvx g i j = g i j := by
  cases i with
  | zero => omega
  | succ i =>
    show g i j = g (i + 1) j
    rw [← h i (by omega) (by omega) j hj, ← h (i + 1) (by omega) h2 j hj]
theorem outl_end {g : Nat → Nat → Bool} {n : Nat} {X : Nat → Nat} {v : Int32} (Xn : X n = 16) (hv : ∀ j, j < 32 → bt v j = pvx g (X n) j) (gi : ∀ i j, 16 ≤ i → g i j = false) : sm (edgX g) (X n) + sm (edgY g) (X n) + bits v = sOutl g := by
  have e : bits v = edgX g 16 := bits_of fun j hj => by rw [hv j (by omega), Xn, gi 16 j (by omega), Bool.xor_false]
  rw [Xn, e]
  show sm (edgX g) 16 + sm (edgY g) 16 + edgX g 16 = (sm (edgX g) 16 + edgX g 16) + sm (edgY g) 16
  omega
theorem outl_step {g : Nat → Nat → Bool} {x y : Nat} {v s : Int32} (hxy : x < y) (hv : ∀ j, j < 32 → bt v j = pvx g x j) (h : ∀ i, x ≤ i → i < y → ∀ j, j < 32 → bt s j = g i j) : sm (edgX g) x + sm (edgY g) x + bits (v ^^^ s) + (y - x) * bits (s ^^^ (s <<< (nI 1 &&& 31))) = sm (edgX g) y + sm (edgY g) y := by
  have e1 : bits (v ^^^ s) = edgX g x := bits_of fun j hj => by rw [b_xor, hv j (by omega), h x (Nat.le_refl _) hxy j (by omega)]
  have e2 : sm (edgX g) y = sm (edgX g) x + bits (v ^^^ s) := sm_one hxy e1.symm fun i i1 i2 => sm_zero fun j hj => by
    rw [pvx_in h i i1 i2 j (by omega), Bool.xor_self]
    rfl
  have e3 : sm (edgY g) y = sm (edgY g) x + (y - x) * bits (s ^^^ (s <<< (nI 1 &&& 31))) := sm_strip (Nat.le_of_lt hxy) fun i i1 i2 => (bits_of fun j hj => by rw [b_xor, h i i1 i2 j (by omega), b_sh1 s (by omega) (h i i1 i2)]).symm
  rw [e2, e3]
  omega
theorem crn_step {g : Nat → Nat → Bool} {x : Nat} {v s : Int32} (hv : ∀ j, j < 32 → bt v j = pvx g x j) (hs : ∀ j, j < 32 → bt s j = g x j) : bits (((v ^^^ s) ^^^ ((v ^^^ s) <<< (nI 1 &&& 31))) &&& (((v ^^^ (v <<< (nI 1 &&& 31))) ^^^ s) ^^^ (s <<< (nI 1 &&& 31)))) = crn g x := by
  refine bits_of fun j hj => ?_
  have hvs : ∀ j, j < 32 → bt (v ^^^ s) j = (pvx g x j ^^ g x j) := fun j hj => by rw [b_xor, hv j hj, hs j hj]
  rw [b_and, b_xor, hvs j (by omega), b_sh1 _ (by omega) hvs, b_xor, b_xor, b_xor, hv j (by omega), hs j (by omega), b_sh1 _ (by omega) hv, b_sh1 _ (by omega) hs]
  have e : pv (fun j => pvx g x j ^^ g x j) j = (pv (pvx g x) j ^^ pv (g x) j) := by cases j <;> rfl
  rw [e]
  generalize pvx g x j = p1
  generalize g x j = p2
  generalize pv (pvx g x) j = p3
  generalize pv (g x) j = p4
  revert p1 p2 p3 p4
  decide
theorem crn_in {g : Nat → Nat → Bool} {x y : Nat} {s : Int32} (h : ∀ i, x ≤ i → i < y → ∀ j, j < 32 → bt s j = g i j) (i : Nat) (h1 : x < i) (h2 : i < y) : crn g i = 0 := by
  refine sm_zero fun j hj => ?_
  have e : pv (pvx g i) j = pv (g i) j := by
    cases j with
    | zero => rfl
    | succ j => exact pvx_in h i h1 h2 j (by omega)
  rw [pvx_in h i h1 h2 j (by omega), e, Bool.xor_self, Bool.xor_self]
  rfl
section AOC0
variable {l : Launch} {D : va_G} {ad : Nat → Nat} {kd : Nat → ClassId} {σ : gS} {c : Nat → Nat} {q : Nat → Nat → Nat}
theorem m0_area (hR : R0 c q σ) (how la lb : Int32) : C0_area 2 l D ad kd [.int how, .int la, .int lb] σ (fun r u => r = cmbR sArea c q how la lb ∧ R0 c q u) := by
  refine Con.of (lv := [some (.ref (ad 0)), some (.int how), some (.int la), some (.int lb), none, none]) (by decide) rfl (Nat.le_of_ble_eq_true rfl) (by simp [Value.category]) (Nat.le_of_ble_eq_true rfl) rfl (fun sz => ?_)
  have bad : (lay how && (lay la && lay lb)) = false → J0_area 2 l D ad kd [.int how, .int la, .int lb] σ sz (fun r u => r = cmbR sArea c q how la lb ∧ R0 c q u) σ 25 [some (.ref (ad 0)), some (.int how), some (.int la), some (.int lb), none, none] [] := by
    intro h
    refine g_bipush (v := -2) dX0_area_25 rfl ?_
    exact g_iret dX0_area_27 (⟨(if_neg (by rw [h]; decide)).symm, hR⟩)
  refine g_il1 dX0_area_0 ?_
  refine g_if_lt (tgt := 25) dX0_area_1 (by decide) (fun c1 => ?_) (fun c1 => ?_)
  · exact bad (by rw [lay_f1 c1]; rfl)
  · refine g_il1 dX0_area_4 ?_
    refine g_iconst (v := nI 2) dX0_area_5 rfl ?_
    refine g_icmp_gt (tgt := 25) dX0_area_6 (by decide) (fun c6 => ?_) (fun c6 => ?_)
    · exact bad (by rw [lay_f2 c6]; rfl)
    · refine g_al0 dX0_area_9 ?_
      refine g_il2 dX0_area_10 ?_
      refine k0_39 dX0_area_11 (m0_isLayer la) (by decide) (Nat.le_of_ble_eq_true rfl) ?_
      rintro r u ⟨hu, rfl⟩
      rw [hu]
      clear hu
      refine g_if_eq_b (tgt := 25) dX0_area_14 (by decide) (fun c14 => ?_) (fun c14 => ?_)
      · exact bad (by rw [c14, Bool.false_and, Bool.and_false])
      · refine g_al0 dX0_area_17 ?_
        refine g_il3 dX0_area_18 ?_
        refine k0_39 dX0_area_19 (m0_isLayer lb) (by decide) (Nat.le_of_ble_eq_true rfl) ?_
        rintro r u ⟨hu, rfl⟩
        rw [hu]
        clear hu
        refine g_if_ne_b (tgt := 28) dX0_area_22 (by decide) (fun c22 => ?_) (fun c22 => ?_)
        · have hV := lay_t c1 c6
          obtain ⟨h, hh, rfl⟩ := lay_n hV
          obtain ⟨a, ha, rfl⟩ := lay_n c14
          obtain ⟨b, hb, rfl⟩ := lay_n c22
          rw [cmbR_ok hh ha hb]
          refine g_al0 dX0_area_28 ?_
          refine g_il1 dX0_area_29 ?_
          refine g_il2 dX0_area_30 ?_
          refine g_il3 dX0_area_31 ?_
          refine k0_46 dX0_area_32 (m0_sweep hR hh ha hb) (by decide) (Nat.le_of_ble_eq_true rfl) ?_
          rintro u ⟨hR, n, X, hW⟩
          have gj : ∀ i j, 16 ≤ j → gg c q h a b i j = false := fun i j hj => gg_j hR.1 ha hb h i hj
          have gi : ∀ i j, 16 ≤ i → gg c q h a b i j = false := fun i j hi => gg_i hR.1 ha hb h hi j
          generalize gg c q h a b = g at hW gj gi ⊢
          obtain ⟨h9, n1, n2, h5, X0, Xn, Xs, h6⟩ := hW
          have hX : ∀ k, k ≤ n → X k ≤ 16 := Xle Xn Xs
          have loop : ∀ (f k : Nat), n - k < f → k ≤ n → J0_area 2 l D ad kd [.int (nI h), .int (nI a), .int (nI b)] σ sz (fun r u => r = nI (sArea g) ∧ R0 c q u) u 41 [some (.ref (ad 0)), some (.int (nI h)), some (.int (nI a)), some (.int (nI b)), some (.int (nI (sm (colN g) (X k)))), some (.int (nI k))] [] := by
            intro f
            induction f with
            | zero => intro k z; omega
            | succ f ih =>
              intro k hf hk
              refine g_il5 dX0_area_41 ?_
              refine g_al0 dX0_area_43 ?_
              refine g0_f50 dX0_area_44 ?_
              refine g_top (h9) ?_
              refine g_icmp_ge_n (tgt := 79) dX0_area_47 (by decide) (by omega) (by omega) (fun c47 => ?_) (fun c47 => ?_)
              · have e : k = n := by omega
                subst e
                refine g_il4 dX0_area_79 ?_
                exact g_iret dX0_area_81 (⟨by rw [Xn]; rfl, hR⟩)
              · have c1 := Xs k (by omega)
                refine g_il4 dX0_area_50 ?_
                refine g_al0 dX0_area_52 ?_
                refine g_il5 dX0_area_53 ?_
                refine k0_54 dX0_area_55 (m0_widthOf (by omega) (h5 k (by omega)) (h5 (k + 1) (by omega)) (Nat.le_of_lt c1)) (by decide) (Nat.le_of_ble_eq_true rfl) ?_
                rintro r u2 ⟨hu, rfl⟩
                rw [hu]
                clear hu
                refine g_al0 dX0_area_58 ?_
                refine g_al0 dX0_area_59 ?_
                refine g0_f26 dX0_area_60 ?_
                refine g_il5 dX0_area_63 ?_
                refine g0_ld6 dX0_area_65 (by omega) ?_
                refine k0_58 dX0_area_66 (m0_bitsIn _) (by decide) (Nat.le_of_ble_eq_true rfl) ?_
                rintro r u2 ⟨hu, rfl⟩
                rw [hu]
                clear hu
                refine g_imul_n dX0_area_69 ?_
                refine g_iadd_n dX0_area_70 ?_
                refine g_is4 dX0_area_71 ?_
                refine g_ic5_n dX0_area_73 ?_
                refine g_goto (tgt := 41) dX0_area_76 (by decide) ?_
                have e : sm (colN g) (X k) + (X (k + 1) - X k) * bits (u 6 k) = sm (colN g) (X (k + 1)) := (sm_strip (Nat.le_of_lt c1) (fun i i1 i2 => (bits_of (fun j hj => h6 k (by omega) i i1 i2 j (by omega))).symm)).symm
                rw [e]
                exact ih (k + 1) (by omega) (by omega)
          refine g_iconst (v := nI 0) dX0_area_35 rfl ?_
          refine g_is4 dX0_area_36 ?_
          refine g_iconst (v := nI 0) dX0_area_38 rfl ?_
          refine g_is5 dX0_area_39 ?_
          have h0 := loop 17 0 (by omega) (by omega)
          rw [X0] at h0
          exact h0
        · exact bad (by rw [c22, Bool.and_false, Bool.and_false])
theorem m0_outline (hR : R0 c q σ) (how la lb : Int32) : C0_outline 2 l D ad kd [.int how, .int la, .int lb] σ (fun r u => r = cmbR sOutl c q how la lb ∧ R0 c q u) := by
  refine Con.of (lv := [some (.ref (ad 0)), some (.int how), some (.int la), some (.int lb), none, none, none]) (by decide) rfl (Nat.le_of_ble_eq_true rfl) (by simp [Value.category]) (Nat.le_of_ble_eq_true rfl) rfl (fun sz => ?_)
  have bad : (lay how && (lay la && lay lb)) = false → J0_outline 2 l D ad kd [.int how, .int la, .int lb] σ sz (fun r u => r = cmbR sOutl c q how la lb ∧ R0 c q u) σ 25 [some (.ref (ad 0)), some (.int how), some (.int la), some (.int lb), none, none, none] [] := by
    intro h
    refine g_bipush (v := -2) dX0_outline_25 rfl ?_
    exact g_iret dX0_outline_27 (⟨(if_neg (by rw [h]; decide)).symm, hR⟩)
  refine g_il1 dX0_outline_0 ?_
  refine g_if_lt (tgt := 25) dX0_outline_1 (by decide) (fun c1 => ?_) (fun c1 => ?_)
  · exact bad (by rw [lay_f1 c1]; rfl)
  · refine g_il1 dX0_outline_4 ?_
    refine g_iconst (v := nI 2) dX0_outline_5 rfl ?_
    refine g_icmp_gt (tgt := 25) dX0_outline_6 (by decide) (fun c6 => ?_) (fun c6 => ?_)
    · exact bad (by rw [lay_f2 c6]; rfl)
    · refine g_al0 dX0_outline_9 ?_
      refine g_il2 dX0_outline_10 ?_
      refine k0_39 dX0_outline_11 (m0_isLayer la) (by decide) (Nat.le_of_ble_eq_true rfl) ?_
      rintro r u ⟨hu, rfl⟩
      rw [hu]
      clear hu
      refine g_if_eq_b (tgt := 25) dX0_outline_14 (by decide) (fun c14 => ?_) (fun c14 => ?_)
      · exact bad (by rw [c14, Bool.false_and, Bool.and_false])
      · refine g_al0 dX0_outline_17 ?_
        refine g_il3 dX0_outline_18 ?_
        refine k0_39 dX0_outline_19 (m0_isLayer lb) (by decide) (Nat.le_of_ble_eq_true rfl) ?_
        rintro r u ⟨hu, rfl⟩
        rw [hu]
        clear hu
        refine g_if_ne_b (tgt := 28) dX0_outline_22 (by decide) (fun c22 => ?_) (fun c22 => ?_)
        · have hV := lay_t c1 c6
          obtain ⟨h, hh, rfl⟩ := lay_n hV
          obtain ⟨a, ha, rfl⟩ := lay_n c14
          obtain ⟨b, hb, rfl⟩ := lay_n c22
          rw [cmbR_ok hh ha hb]
          refine g_al0 dX0_outline_28 ?_
          refine g_il1 dX0_outline_29 ?_
          refine g_il2 dX0_outline_30 ?_
          refine g_il3 dX0_outline_31 ?_
          refine k0_46 dX0_outline_32 (m0_sweep hR hh ha hb) (by decide) (Nat.le_of_ble_eq_true rfl) ?_
          rintro u ⟨hR, n, X, hW⟩
          have gj : ∀ i j, 16 ≤ j → gg c q h a b i j = false := fun i j hj => gg_j hR.1 ha hb h i hj
          have gi : ∀ i j, 16 ≤ i → gg c q h a b i j = false := fun i j hi => gg_i hR.1 ha hb h hi j
          generalize gg c q h a b = g at hW gj gi ⊢
          obtain ⟨h9, n1, n2, h5, X0, Xn, Xs, h6⟩ := hW
          have hX : ∀ k, k ≤ n → X k ≤ 16 := Xle Xn Xs
          have loop : ∀ (f k : Nat) (v : Int32), n - k < f → k ≤ n → (∀ j, j < 32 → bt v j = pvx g (X k) j) → J0_outline 2 l D ad kd [.int (nI h), .int (nI a), .int (nI b)] σ sz (fun r u => r = nI (sOutl g) ∧ R0 c q u) u 44 [some (.ref (ad 0)), some (.int (nI h)), some (.int (nI a)), some (.int (nI b)), some (.int (nI (sm (edgX g) (X k) + sm (edgY g) (X k)))), some (.int v), some (.int (nI k))] [] := by
            intro f
            induction f with
            | zero => intro k v z; omega
            | succ f ih =>
              intro k v hf hk hv
              refine g_il6 dX0_outline_44 ?_
              refine g_al0 dX0_outline_46 ?_
              refine g0_f50 dX0_outline_47 ?_
              refine g_top (h9) ?_
              refine g_icmp_ge_n (tgt := 120) dX0_outline_50 (by decide) (by omega) (by omega) (fun c50 => ?_) (fun c50 => ?_)
              · have e : k = n := by omega
                subst e
                refine g_il4 dX0_outline_120 ?_
                refine g_al0 dX0_outline_122 ?_
                refine g_il5 dX0_outline_123 ?_
                refine k0_58 dX0_outline_125 (m0_bitsIn _) (by decide) (Nat.le_of_ble_eq_true rfl) ?_
                rintro r u2 ⟨hu, rfl⟩
                rw [hu]
                clear hu
                refine g_iadd_n dX0_outline_128 ?_
                exact g_iret dX0_outline_129 (⟨congrArg nI (outl_end Xn hv gi), hR⟩)
              · have c1 := Xs k (by omega)
                refine g_il4 dX0_outline_53 ?_
                refine g_al0 dX0_outline_55 ?_
                refine g_il5 dX0_outline_56 ?_
                refine g_al0 dX0_outline_58 ?_
                refine g0_f26 dX0_outline_59 ?_
                refine g_il6 dX0_outline_62 ?_
                refine g0_ld6 dX0_outline_64 (by omega) ?_
                refine g_ixor dX0_outline_65 ?_
                refine k0_58 dX0_outline_66 (m0_bitsIn _) (by decide) (Nat.le_of_ble_eq_true rfl) ?_
                rintro r u2 ⟨hu, rfl⟩
                rw [hu]
                clear hu
                refine g_iadd_n dX0_outline_69 ?_
                refine g_is4 dX0_outline_70 ?_
                refine g_il4 dX0_outline_72 ?_
                refine g_al0 dX0_outline_74 ?_
                refine g_il6 dX0_outline_75 ?_
                refine k0_54 dX0_outline_77 (m0_widthOf (by omega) (h5 k (by omega)) (h5 (k + 1) (by omega)) (Nat.le_of_lt c1)) (by decide) (Nat.le_of_ble_eq_true rfl) ?_
                rintro r u2 ⟨hu, rfl⟩
                rw [hu]
                clear hu
                refine g_al0 dX0_outline_80 ?_
                refine g_al0 dX0_outline_81 ?_
                refine g0_f26 dX0_outline_82 ?_
                refine g_il6 dX0_outline_85 ?_
                refine g0_ld6 dX0_outline_87 (by omega) ?_
                refine g_al0 dX0_outline_88 ?_
                refine g0_f26 dX0_outline_89 ?_
                refine g_il6 dX0_outline_92 ?_
                refine g0_ld6 dX0_outline_94 (by omega) ?_
                refine g_iconst (v := nI 1) dX0_outline_95 rfl ?_
                refine g_ishl dX0_outline_96 ?_
                refine g_ixor dX0_outline_97 ?_
                refine k0_58 dX0_outline_98 (m0_bitsIn _) (by decide) (Nat.le_of_ble_eq_true rfl) ?_
                rintro r u2 ⟨hu, rfl⟩
                rw [hu]
                clear hu
                refine g_imul_n dX0_outline_101 ?_
                refine g_iadd_n dX0_outline_102 ?_
                refine g_is4 dX0_outline_103 ?_
                refine g_al0 dX0_outline_105 ?_
                refine g0_f26 dX0_outline_106 ?_
                refine g_il6 dX0_outline_109 ?_
                refine g0_ld6 dX0_outline_111 (by omega) ?_
                refine g_is5 dX0_outline_112 ?_
                refine g_ic6_n dX0_outline_114 ?_
                refine g_goto (tgt := 44) dX0_outline_117 (by decide) ?_
                have e := outl_step c1 hv (h6 k (by omega))
                rw [e]
                exact ih (k + 1) (u 6 k) (by omega) (by omega) (fun j hj => pvx_next c1 (h6 k (by omega)) j hj)
          refine g_iconst (v := nI 0) dX0_outline_35 rfl ?_
          refine g_is4 dX0_outline_36 ?_
          refine g_iconst (v := nI 0) dX0_outline_38 rfl ?_
          refine g_top (nI_0) ?_
          refine g_is5 dX0_outline_39 ?_
          refine g_iconst (v := nI 0) dX0_outline_41 rfl ?_
          refine g_is6 dX0_outline_42 ?_
          have h0 := loop 17 0 0 (by omega) (by omega) (fun j _ => by rw [X0, b_0]; rfl)
          rw [X0] at h0
          exact h0
        · exact bad (by rw [c22, Bool.and_false, Bool.and_false])
theorem m0_corners (hR : R0 c q σ) (how la lb : Int32) : C0_corners 2 l D ad kd [.int how, .int la, .int lb] σ (fun r u => r = cmbR sCorn c q how la lb ∧ R0 c q u) := by
  refine Con.of (lv := [some (.ref (ad 0)), some (.int how), some (.int la), some (.int lb), none, none, none, none, none, none, none]) (by decide) rfl (Nat.le_of_ble_eq_true rfl) (by simp [Value.category]) (Nat.le_of_ble_eq_true rfl) rfl (fun sz => ?_)
  have bad : (lay how && (lay la && lay lb)) = false → J0_corners 2 l D ad kd [.int how, .int la, .int lb] σ sz (fun r u => r = cmbR sCorn c q how la lb ∧ R0 c q u) σ 25 [some (.ref (ad 0)), some (.int how), some (.int la), some (.int lb), none, none, none, none, none, none, none] [] := by
    intro h
    refine g_bipush (v := -2) dX0_corners_25 rfl ?_
    exact g_iret dX0_corners_27 (⟨(if_neg (by rw [h]; decide)).symm, hR⟩)
  refine g_il1 dX0_corners_0 ?_
  refine g_if_lt (tgt := 25) dX0_corners_1 (by decide) (fun c1 => ?_) (fun c1 => ?_)
  · exact bad (by rw [lay_f1 c1]; rfl)
  · refine g_il1 dX0_corners_4 ?_
    refine g_iconst (v := nI 2) dX0_corners_5 rfl ?_
    refine g_icmp_gt (tgt := 25) dX0_corners_6 (by decide) (fun c6 => ?_) (fun c6 => ?_)
    · exact bad (by rw [lay_f2 c6]; rfl)
    · refine g_al0 dX0_corners_9 ?_
      refine g_il2 dX0_corners_10 ?_
      refine k0_39 dX0_corners_11 (m0_isLayer la) (by decide) (Nat.le_of_ble_eq_true rfl) ?_
      rintro r u ⟨hu, rfl⟩
      rw [hu]
      clear hu
      refine g_if_eq_b (tgt := 25) dX0_corners_14 (by decide) (fun c14 => ?_) (fun c14 => ?_)
      · exact bad (by rw [c14, Bool.false_and, Bool.and_false])
      · refine g_al0 dX0_corners_17 ?_
        refine g_il3 dX0_corners_18 ?_
        refine k0_39 dX0_corners_19 (m0_isLayer lb) (by decide) (Nat.le_of_ble_eq_true rfl) ?_
        rintro r u ⟨hu, rfl⟩
        rw [hu]
        clear hu
        refine g_if_ne_b (tgt := 28) dX0_corners_22 (by decide) (fun c22 => ?_) (fun c22 => ?_)
        · have hV := lay_t c1 c6
          obtain ⟨h, hh, rfl⟩ := lay_n hV
          obtain ⟨a, ha, rfl⟩ := lay_n c14
          obtain ⟨b, hb, rfl⟩ := lay_n c22
          rw [cmbR_ok hh ha hb]
          refine g_al0 dX0_corners_28 ?_
          refine g_il1 dX0_corners_29 ?_
          refine g_il2 dX0_corners_30 ?_
          refine g_il3 dX0_corners_31 ?_
          refine k0_46 dX0_corners_32 (m0_sweep hR hh ha hb) (by decide) (Nat.le_of_ble_eq_true rfl) ?_
          rintro u ⟨hR, n, X, hW⟩
          have gj : ∀ i j, 16 ≤ j → gg c q h a b i j = false := fun i j hj => gg_j hR.1 ha hb h i hj
          have gi : ∀ i j, 16 ≤ i → gg c q h a b i j = false := fun i j hi => gg_i hR.1 ha hb h hi j
          generalize gg c q h a b = g at hW gj gi ⊢
          obtain ⟨h9, n1, n2, h5, X0, Xn, Xs, h6⟩ := hW
          have hX : ∀ k, k ≤ n → X k ≤ 16 := Xle Xn Xs
          have loop : ∀ (f k : Nat) (v : Int32) (w7 w8 w9 w10 : Option Value), n + 1 - k < f → k ≤ n + 1 → (k ≤ n → ∀ j, j < 32 → bt v j = pvx g (X k) j) → J0_corners 2 l D ad kd [.int (nI h), .int (nI a), .int (nI b)] σ sz (fun r u => r = nI (sCorn g) ∧ R0 c q u) u 44 [some (.ref (ad 0)), some (.int (nI h)), some (.int (nI a)), some (.int (nI b)), some (.int (nI (sm (crn g) (if k ≤ n then X k else 17)))), some (.int v), some (.int (nI k)), w7, w8, w9, w10] [] := by
            intro f
            induction f with
            | zero => intro k v w7 w8 w9 w10 z; omega
            | succ f ih =>
              intro k v w7 w8 w9 w10 hf hk hv
              refine g_il6 dX0_corners_44 ?_
              refine g_al0 dX0_corners_46 ?_
              refine g0_f50 dX0_corners_47 ?_
              refine g_top (h9) ?_
              refine g_icmp_gt_n (tgt := 132) dX0_corners_50 (by decide) (by omega) (by omega) (fun c50 => ?_) (fun c50 => ?_)
              · rw [if_neg (by omega)]
                refine g_il4 dX0_corners_132 ?_
                exact g_iret dX0_corners_134 (⟨rfl, hR⟩)
              · have body : ∀ s : Int32, (∀ j, j < 32 → bt s j = g (X k) j) → (k < n → s = u 6 k) → J0_corners 2 l D ad kd [.int (nI h), .int (nI a), .int (nI b)] σ sz (fun r u => r = nI (sCorn g) ∧ R0 c q u) u 73 [some (.ref (ad 0)), some (.int (nI h)), some (.int (nI a)), some (.int (nI b)), some (.int (nI (sm (crn g) (X k)))), some (.int v), some (.int (nI k)), w7, w8, w9, w10] [.int s] := by
                  intro s hs hs2
                  refine g_is7 dX0_corners_73 ?_
                  refine g_il5 dX0_corners_75 ?_
                  refine g_il7 dX0_corners_77 ?_
                  refine g_ixor dX0_corners_79 ?_
                  refine g_is8 dX0_corners_80 ?_
                  refine g_il8 dX0_corners_82 ?_
                  refine g_il8 dX0_corners_84 ?_
                  refine g_iconst (v := nI 1) dX0_corners_86 rfl ?_
                  refine g_ishl dX0_corners_87 ?_
                  refine g_ixor dX0_corners_88 ?_
                  refine g_is9 dX0_corners_89 ?_
                  refine g_il5 dX0_corners_91 ?_
                  refine g_il5 dX0_corners_93 ?_
                  refine g_iconst (v := nI 1) dX0_corners_95 rfl ?_
                  refine g_ishl dX0_corners_96 ?_
                  refine g_ixor dX0_corners_97 ?_
                  refine g_il7 dX0_corners_98 ?_
                  refine g_ixor dX0_corners_100 ?_
                  refine g_il7 dX0_corners_101 ?_
                  refine g_iconst (v := nI 1) dX0_corners_103 rfl ?_
                  refine g_ishl dX0_corners_104 ?_
                  refine g_ixor dX0_corners_105 ?_
                  refine g_is10 dX0_corners_106 ?_
                  refine g_il4 dX0_corners_108 ?_
                  refine g_al0 dX0_corners_110 ?_
                  refine g_il9 dX0_corners_111 ?_
                  refine g_il10 dX0_corners_113 ?_
                  refine g_iand dX0_corners_115 ?_
                  refine k0_58 dX0_corners_116 (m0_bitsIn _) (by decide) (Nat.le_of_ble_eq_true rfl) ?_
                  rintro r u2 ⟨hu, rfl⟩
                  rw [hu]
                  clear hu
                  refine g_iadd_n dX0_corners_119 ?_
                  refine g_is4 dX0_corners_120 ?_
                  refine g_il7 dX0_corners_122 ?_
                  refine g_is5 dX0_corners_124 ?_
                  refine g_ic6_n dX0_corners_126 ?_
                  refine g_goto (tgt := 44) dX0_corners_129 (by decide) ?_
                  have e := crn_step (hv c50) hs
                  have E : sm (crn g) (X k) + crn g (X k) = sm (crn g) (if k + 1 ≤ n then X (k + 1) else 17) := by
                    by_cases z : k < n
                    · rw [if_pos (by omega)]
                      exact (sm_one (Xs k z) rfl (fun x x1 x2 => crn_in (h6 k z) x x1 x2)).symm
                    · rw [if_neg (by omega), show k = n by omega, Xn]
                      rfl
                  rw [e, E]
                  refine ih (k + 1) s _ _ _ _ (by omega) (by omega) (fun z j hj => ?_)
                  rw [hs2 (by omega)]
                  exact pvx_next (Xs k (by omega)) (h6 k (by omega)) j hj
                rw [if_pos c50]
                refine g_il6 dX0_corners_53 ?_
                refine g_al0 dX0_corners_55 ?_
                refine g0_f50 dX0_corners_56 ?_
                refine g_top (h9) ?_
                refine g_icmp_ge_n (tgt := 72) dX0_corners_59 (by decide) (by omega) (by omega) (fun c59 => ?_) (fun c59 => ?_)
                · refine g_iconst (v := nI 0) dX0_corners_72 rfl ?_
                  refine g_top (nI_0) ?_
                  refine body 0 (fun j hj => ?_) (fun z => absurd z (by omega))
                  rw [b_0, show k = n by omega, Xn, gi 16 j (by omega)]
                · refine g_al0 dX0_corners_62 ?_
                  refine g0_f26 dX0_corners_63 ?_
                  refine g_il6 dX0_corners_66 ?_
                  refine g0_ld6 dX0_corners_68 (by omega) ?_
                  refine g_goto (tgt := 73) dX0_corners_69 (by decide) ?_
                  exact body _ (h6 k c59 (X k) (Nat.le_refl _) (Xs k c59)) (fun _ => rfl)
          refine g_iconst (v := nI 0) dX0_corners_35 rfl ?_
          refine g_is4 dX0_corners_36 ?_
          refine g_iconst (v := nI 0) dX0_corners_38 rfl ?_
          refine g_top (nI_0) ?_
          refine g_is5 dX0_corners_39 ?_
          refine g_iconst (v := nI 0) dX0_corners_41 rfl ?_
          refine g_is6 dX0_corners_42 ?_
          have h0 := loop 18 0 0 none none none none (by omega) (by omega) (fun _ j _ => by rw [X0, b_0]; rfl)
          rw [if_pos (Nat.zero_le n), X0] at h0
          exact h0
        · exact bad (by rw [c22, Bool.and_false, Bool.and_false])
end AOC0
end
section
set_option maxRecDepth 100000
/-! RUNS: rl f i cells back from i, rr f n i cells on from i (at most n), all true; short: i is in a run of fewer than w, an inner one if inn -/
def rl (f : Nat → Bool) : Nat → Nat
  | 0 => tn (f 0)
  | i + 1 => if f (i + 1) = true then rl f i + 1 else 0
def rr (f : Nat → Bool) : Nat → Nat → Nat
  | 0, _ => 0
  | n + 1, i => if f i = true then rr f n (i + 1) + 1 else 0
theorem rl_of {f : Nat → Bool} : ∀ (n i : Nat), n ≤ i + 1 → (∀ t, t < n → f (i - t) = true) → (n = i + 1 ∨ f (i - n) = false) → rl f i = n := by
  intro n
  induction n with
  | zero =>
    intro i _ _ h
    have h : f i = false := by
      rcases h with h | h
      · omega
      · exact h
    cases i with
    | zero => show tn (f 0) = 0; rw [h]; rfl
    | succ i => show (if f (i + 1) = true then rl f i + 1 else 0) = 0; rw [h]; rfl
  | succ n ih =>
    intro i hn h1 h2
    have h0 : f i = true := h1 0 (by omega)
    cases i with
    | zero =>
      show tn (f 0) = n + 1
      rw [h0, show n = 0 by omega]
      rfl
    | succ i =>
      have h3 : n = i + 1 ∨ f (i - n) = false := by
        rcases h2 with h | h
        · exact Or.inl (by omega)
        · exact Or.inr (by rwa [show i + 1 - (n + 1) = i - n by omega] at h)
      have h4 : ∀ t, t < n → f (i - t) = true := fun t ht => by
        have := h1 (t + 1) (by omega)
        rwa [show i + 1 - (t + 1) = i - t by omega] at this
      show (if f (i + 1) = true then rl f i + 1 else 0) = n + 1
      rw [if_pos h0, ih i (by omega) h4 h3]
theorem rr_of {f : Nat → Bool} : ∀ (n m i : Nat), n ≤ m → (∀ t, t < n → f (i + t) = true) → (n = m ∨ f (i + n) = false) → rr f m i = n := by
  intro n
  induction n with
  | zero =>
    intro m i _ _ h
    cases m with
    | zero => rfl
    | succ m =>
      have h : f i = false := by
        rcases h with h | h
        · omega
        · exact h
      show (if f i = true then rr f m (i + 1) + 1 else 0) = 0
      rw [h]
      rfl
  | succ n ih =>
    intro m i hn h1 h2
    cases m with
    | zero => omega
    | succ m =>
      have h3 : n = m ∨ f (i + 1 + n) = false := by
        rcases h2 with h | h
        · exact Or.inl (by omega)
        · exact Or.inr (by rwa [show i + (n + 1) = i + 1 + n by omega] at h)
      have h4 : ∀ t, t < n → f (i + 1 + t) = true := fun t ht => by
        have := h1 (t + 1) (by omega)
        rwa [show i + (t + 1) = i + 1 + t by omega] at this
      have h0 : f i = true := h1 0 (by omega)
      show (if f i = true then rr f m (i + 1) + 1 else 0) = n + 1
      rw [if_pos h0, ih m (i + 1) (by omega) h4 h3]
def short (f : Nat → Bool) (w : Nat) (inn : Bool) (i : Nat) : Bool := f i && (decide (rl f i + rr f 16 i - 1 < w) && (!inn || (decide (rl f i ≤ i) && decide (i + rr f 16 i ≤ 15))))
theorem short_no {f : Nat → Bool} {w : Nat} {inn : Bool} {i : Nat} (h : f i = false) : short f w inn i = false := by
  unfold short
  rw [h]
  rfl
/-- in the run from s to e -/
theorem short_run {f : Nat → Bool} {w : Nat} {inn : Bool} {s e t : Nat} (hs : s ≤ t) (ht : t < e) (he : e ≤ 16) (hf : ∀ x, s ≤ x → x < e → f x = true) (h0 : s = 0 ∨ f (s - 1) = false) (h1 : f e = false) : short f w inn t = (decide (e - s < w) && (!inn || (!decide (s = 0) && !decide (e = 16)))) := by
  have e1 : rl f t = t + 1 - s := rl_of _ _ (by omega) (fun x hx => hf _ (by omega) (by omega)) (by
    rcases h0 with h | h
    · exact Or.inl (by omega)
    · rcases Nat.eq_zero_or_pos s with z | z
      · exact Or.inl (by omega)
      · exact Or.inr (by rwa [show t - (t + 1 - s) = s - 1 by omega]))
  have e2 : rr f 16 t = e - t := rr_of _ _ _ (by omega) (fun x hx => hf _ (by omega) (by omega)) (Or.inr (by rwa [show t + (e - t) = e by omega]))
  unfold short
  rw [hf t hs ht, e1, e2, Bool.true_and, show decide (t + 1 - s + (e - t) - 1 < w) = decide (e - s < w) from decide_eq_decide.mpr (by omega), show decide (t + 1 - s ≤ t) = !decide (s = 0) by rw [← decide_not]; exact decide_eq_decide.mpr (by omega), show decide (t + (e - t) ≤ 15) = !decide (e = 16) by rw [← decide_not]; exact decide_eq_decide.mpr (by omega)]
/-- the cells whose runs are looked at: those of the grid, or the others -/
def fc (inn : Bool) (g : Nat → Nat → Bool) (i j : Nat) : Bool := cond inn ((decide (i < 16) && decide (j < 16)) && !g i j) (g i j)
theorem fc_j {inn : Bool} {g : Nat → Nat → Bool} (gj : ∀ i j, 16 ≤ j → g i j = false) {i j : Nat} (h : 16 ≤ j) : fc inn g i j = false := by
  cases inn
  · exact gj i j h
  · show ((decide (i < 16) && decide (j < 16)) && !g i j) = false
    rw [decide_eq_false (show ¬ j < 16 by omega), Bool.and_false]
    rfl
theorem fc_i {inn : Bool} {g : Nat → Nat → Bool} (gi : ∀ i j, 16 ≤ i → g i j = false) {i j : Nat} (h : 16 ≤ i) : fc inn g i j = false := by
  cases inn
  · exact gi i j h
  · show ((decide (i < 16) && decide (j < 16)) && !g i j) = false
    rw [decide_eq_false (show ¬ i < 16 by omega)]
    rfl
theorem fc_in {inn : Bool} {g : Nat → Nat → Bool} {i j : Nat} (hi : i < 16) (hj : j < 16) : fc inn g i j = (g i j ^^ inn) := by
  cases inn
  · show g i j = _
    rw [Bool.xor_false]
  · show ((decide (i < 16) && decide (j < 16)) && !g i j) = _
    rw [decide_eq_true hi, decide_eq_true hj, Bool.xor_true]
    rfl
/-- what thin and gaps count -/
def mrk (inn : Bool) (g : Nat → Nat → Bool) (w i j : Nat) : Bool := short (fc inn g i) w inn j || short (fun x => fc inn g x j) w inn i
def sMark (inn : Bool) (g : Nat → Nat → Bool) (w : Nat) : Nat := sm (fun i => sm (fun j => tn (mrk inn g w i j)) 18) 16
theorem bI_inj {a b : Bool} : bI a = bI b ↔ a = b := by cases a <;> cases b <;> decide
theorem sf_sf (σ : gS) (k : Nat) (f g : Nat → Int32) : sf (sf σ k f) k g = sf σ k g := by
  funext j
  unfold sf
  cases Nat.beq j k <;> rfl
theorem sf_self (σ : gS) (k : Nat) : sf σ k (σ k) = σ := by
  funext j
  unfold sf
  cases h : Nat.beq j k
  · rfl
  · rw [Nat.eq_of_beq_eq_true h]
    rfl
theorem Xmono {n : Nat} {X : Nat → Nat} (Xs : ∀ k, k < n → X k < X (k + 1)) : ∀ d k, k + d ≤ n → X k + d ≤ X (k + d) := by
  intro d
  induction d with
  | zero => intro k _; exact Nat.le_refl _
  | succ d ih =>
    intro k hk
    have h1 := ih k (by omega)
    have h2 := Xs (k + d) (by omega)
    show X k + (d + 1) ≤ X (k + d + 1)
    omega
section RUN0
variable {l : Launch} {D : va_G} {ad : Nat → Nat} {kd : Nat → ClassId} {σ : gS} {c : Nat → Nat} {q : Nat → Nat → Nat}
theorem m0_shortRuns {f : Nat → Bool} {w : Nat} (hw : w < 2 ^ 31) (inn : Bool) {x : Int32} (hx : ∀ j, j < 32 → bt x j = f j) (hf16 : ∀ j, 16 ≤ j → f j = false) : C0_shortRuns 0 l D ad kd [.int x, .int (nI w), .int (bI inn)] σ (fun r u => u = σ ∧ ∀ j, j < 32 → bt r j = short f w inn j) := by
  refine Con.of (lv := [some (.ref (ad 0)), some (.int x), some (.int (nI w)), some (.int (bI inn)), none, none, none, none]) (by decide) rfl (Nat.le_of_ble_eq_true rfl) (by simp [Value.category]) (Nat.le_of_ble_eq_true rfl) rfl (fun sz => ?_)
  have loop : ∀ (d j : Nat) (v : Int32) (w6 w7 : Option Value), 17 - j < d → j ≤ 17 → (j = 0 ∨ f (j - 1) = false) → (∀ t, t < 32 → bt v t = (decide (t < j) && short f w inn t)) → J0_shortRuns 0 l D ad kd [.int x, .int (nI w), .int (bI inn)] σ sz (fun r u => u = σ ∧ ∀ j, j < 32 → bt r j = short f w inn j) σ 6 [some (.ref (ad 0)), some (.int x), some (.int (nI w)), some (.int (bI inn)), some (.int v), some (.int (nI j)), w6, w7] [] := by
    intro d
    induction d with
    | zero => intro j v w6 w7 z; omega
    | succ d ih =>
      intro j v w6 w7 hd hj hj0 hv
      refine g_il5 dX0_shortRuns_6 ?_
      refine g_bipush (v := nI 16) dX0_shortRuns_8 rfl ?_
      refine g_icmp_ge_n (tgt := 106) dX0_shortRuns_10 (by decide) (by omega) (by omega) (fun c10 => ?_) (fun c10 => ?_)
      · refine g_il4 dX0_shortRuns_106 ?_
        refine g_iret dX0_shortRuns_108 ⟨rfl, fun t ht => ?_⟩
        rw [hv t ht]
        rcases Nat.lt_or_ge t j with z | z
        · rw [decide_eq_true z, Bool.true_and]
        · rw [decide_eq_false (by omega), short_no (hf16 t (by omega))]
          rfl
      · have part : ∀ (e : Nat) (w7 : Option Value), j ≤ e → e ≤ 16 → (∀ t, j ≤ t → t < e → f t = true) → f e = false → J0_shortRuns 0 l D ad kd [.int x, .int (nI w), .int (bI inn)] σ sz (fun r u => u = σ ∧ ∀ j, j < 32 → bt r j = short f w inn j) σ 39 [some (.ref (ad 0)), some (.int x), some (.int (nI w)), some (.int (bI inn)), some (.int v), some (.int (nI j)), some (.int (nI e)), w7] [] := by
          intro e w7 e1 e2 e3 e4
          have nxt : ∀ (v2 : Int32) (w7 : Option Value), (∀ t, t < 32 → bt v2 t = (bt v t || (decide (j ≤ t) && (decide (t < e) && short f w inn t)))) → J0_shortRuns 0 l D ad kd [.int x, .int (nI w), .int (bI inn)] σ sz (fun r u => u = σ ∧ ∀ j, j < 32 → bt r j = short f w inn j) σ 97 [some (.ref (ad 0)), some (.int x), some (.int (nI w)), some (.int (bI inn)), some (.int v2), some (.int (nI j)), some (.int (nI e)), w7] [] := by
            intro v2 w7 hv2
            refine g_il6 dX0_shortRuns_97 ?_
            refine g_iconst (v := nI 1) dX0_shortRuns_99 rfl ?_
            refine g_iadd_n dX0_shortRuns_100 ?_
            refine g_is5 dX0_shortRuns_101 ?_
            refine g_goto (tgt := 6) dX0_shortRuns_103 (by decide) ?_
            refine ih (e + 1) v2 _ _ (by omega) (by omega) (Or.inr e4) (fun t ht => ?_)
            rw [hv2 t ht, hv t ht]
            by_cases z1 : t < j
            · rw [decide_eq_true z1, decide_eq_false (show ¬ j ≤ t by omega), decide_eq_true (show t < e + 1 by omega)]
              simp
            · rw [decide_eq_false z1, decide_eq_true (show j ≤ t by omega)]
              by_cases z2 : t < e
              · rw [decide_eq_true z2, decide_eq_true (show t < e + 1 by omega)]
                rfl
              · rw [decide_eq_false z2]
                by_cases z3 : t = e
                · rw [z3, short_no e4]
                  simp
                · rw [decide_eq_false (show ¬ t < e + 1 by omega)]
                  rfl
          have skp : ∀ (w7 : Option Value), (∀ t, j ≤ t → t < e → short f w inn t = false) → J0_shortRuns 0 l D ad kd [.int x, .int (nI w), .int (bI inn)] σ sz (fun r u => u = σ ∧ ∀ j, j < 32 → bt r j = short f w inn j) σ 97 [some (.ref (ad 0)), some (.int x), some (.int (nI w)), some (.int (bI inn)), some (.int v), some (.int (nI j)), some (.int (nI e)), w7] [] := by
            intro w7 hz
            refine nxt v w7 (fun t ht => ?_)
            by_cases z1 : j ≤ t
            · by_cases z2 : t < e
              · rw [hz t z1 z2]
                simp
              · rw [decide_eq_false z2]
                simp
            · rw [decide_eq_false z1]
              simp
          have sr : ∀ t, j ≤ t → t < e → short f w inn t = (decide (e - j < w) && (!inn || (!decide (j = 0) && !decide (e = 16)))) := fun t t1 t2 => short_run t1 t2 e2 e3 hj0 e4
          have p56 : ∀ op : Bool, op = (decide (j = 0) || decide (e = 16)) → J0_shortRuns 0 l D ad kd [.int x, .int (nI w), .int (bI inn)] σ sz (fun r u => u = σ ∧ ∀ j, j < 32 → bt r j = short f w inn j) σ 56 [some (.ref (ad 0)), some (.int x), some (.int (nI w)), some (.int (bI inn)), some (.int v), some (.int (nI j)), some (.int (nI e)), w7] [.int (bI op)] := by
            intro op hop
            refine g_is7 dX0_shortRuns_56 ?_
            refine g_il6 dX0_shortRuns_58 ?_
            refine g_il5 dX0_shortRuns_60 ?_
            refine g_icmp_le_n (tgt := 97) dX0_shortRuns_62 (by decide) (by omega) (by omega) (fun c62 => ?_) (fun c62 => ?_)
            · exact skp _ (fun t t1 t2 => by omega)
            · refine g_il6 dX0_shortRuns_65 ?_
              refine g_il5 dX0_shortRuns_67 ?_
              refine g_isub_n dX0_shortRuns_69 (by omega) ?_
              refine g_il2 dX0_shortRuns_70 ?_
              refine g_icmp_ge_n (tgt := 97) dX0_shortRuns_71 (by decide) (by omega) (by omega) (fun c71 => ?_) (fun c71 => ?_)
              · exact skp _ (fun t t1 t2 => by rw [sr t t1 t2, decide_eq_false (by omega)]; rfl)
              · have mark : (inn && op) = false → J0_shortRuns 0 l D ad kd [.int x, .int (nI w), .int (bI inn)] σ sz (fun r u => u = σ ∧ ∀ j, j < 32 → bt r j = short f w inn j) σ 83 [some (.ref (ad 0)), some (.int x), some (.int (nI w)), some (.int (bI inn)), some (.int v), some (.int (nI j)), some (.int (nI e)), some (.int (bI op))] [] := by
                  intro ho
                  refine g_il4 dX0_shortRuns_83 ?_
                  refine g_iconst (v := nI 1) dX0_shortRuns_85 rfl ?_
                  refine g_il6 dX0_shortRuns_86 ?_
                  refine g_ishl dX0_shortRuns_88 ?_
                  refine g_iconst (v := nI 1) dX0_shortRuns_89 rfl ?_
                  refine g_il5 dX0_shortRuns_90 ?_
                  refine g_ishl dX0_shortRuns_92 ?_
                  refine g_isub dX0_shortRuns_93 ?_
                  refine g_ior dX0_shortRuns_94 ?_
                  refine g_is4 dX0_shortRuns_95 ?_
                  refine nxt _ _ (fun t ht => ?_)
                  rw [b_or]
                  congr 1
                  show bt (rwI j e) t = _
                  rw [b_rw e1 e2 ht]
                  by_cases z1 : j ≤ t
                  · by_cases z2 : t < e
                    · have hh : (!inn || (!decide (j = 0) && !decide (e = 16))) = true := by
                        rw [hop] at ho
                        revert ho
                        generalize decide (j = 0) = p1
                        generalize decide (e = 16) = p2
                        cases inn <;> cases p1 <;> cases p2 <;> simp
                      rw [sr t z1 z2, decide_eq_true z1, decide_eq_true z2, decide_eq_true c71, hh]
                      rfl
                    · rw [decide_eq_false z2]
                      simp
                  · rw [decide_eq_false z1]
                    rfl
                refine g_il3 dX0_shortRuns_74 ?_
                refine g_if_eq_b (tgt := 83) dX0_shortRuns_75 (by decide) (fun c75 => ?_) (fun c75 => ?_)
                · exact mark (by rw [c75]; rfl)
                · refine g_il7 dX0_shortRuns_78 ?_
                  refine g_if_ne_b (tgt := 97) dX0_shortRuns_80 (by decide) (fun c80 => ?_) (fun c80 => ?_)
                  · refine skp _ (fun t t1 t2 => ?_)
                    rw [sr t t1 t2, c75]
                    rw [hop] at c80
                    revert c80
                    generalize decide (j = 0) = p1
                    generalize decide (e = 16) = p2
                    cases p1 <;> cases p2 <;> simp
                  · exact mark (by rw [c80, Bool.and_false])
          refine g_il5 dX0_shortRuns_39 ?_
          refine g_top (rfl) ?_
          refine g_if_eq (tgt := 51) dX0_shortRuns_41 (by decide) (fun c41 => ?_) (fun c41 => ?_)
          · refine g_iconst (v := nI 1) dX0_shortRuns_51 rfl ?_
            refine g_goto (tgt := 56) dX0_shortRuns_52 (by decide) ?_
            exact p56 true (by rw [decide_eq_true ((nI_eq (by omega) (by omega)).mp (c41.trans nI_0.symm))]; rfl)
          · have j0 : ¬ j = 0 := fun z => c41 (by rw [z]; rfl)
            refine g_il6 dX0_shortRuns_44 ?_
            refine g_bipush (v := nI 16) dX0_shortRuns_46 rfl ?_
            refine g_icmp_ne_n (tgt := 55) dX0_shortRuns_48 (by decide) (by omega) (by omega) (fun c48 => ?_) (fun c48 => ?_)
            · refine g_iconst (v := nI 0) dX0_shortRuns_55 rfl ?_
              exact p56 false (by rw [decide_eq_false j0, decide_eq_false c48]; rfl)
            · refine g_iconst (v := nI 1) dX0_shortRuns_51 rfl ?_
              refine g_goto (tgt := 56) dX0_shortRuns_52 (by decide) ?_
              exact p56 true (by rw [decide_eq_true c48, Bool.or_true])
        have inner : ∀ (d2 e : Nat), 16 - e < d2 → j ≤ e → e ≤ 16 → (∀ t, j ≤ t → t < e → f t = true) → J0_shortRuns 0 l D ad kd [.int x, .int (nI w), .int (bI inn)] σ sz (fun r u => u = σ ∧ ∀ j, j < 32 → bt r j = short f w inn j) σ 17 [some (.ref (ad 0)), some (.int x), some (.int (nI w)), some (.int (bI inn)), some (.int v), some (.int (nI j)), some (.int (nI e)), w7] [] := by
          intro d2
          induction d2 with
          | zero => intro e z; omega
          | succ d2 ih2 =>
            intro e hd2 e1 e2 e3
            refine g_il6 dX0_shortRuns_17 ?_
            refine g_bipush (v := nI 16) dX0_shortRuns_19 rfl ?_
            refine g_icmp_ge_n (tgt := 39) dX0_shortRuns_21 (by decide) (by omega) (by omega) (fun c21 => ?_) (fun c21 => ?_)
            · exact part e w7 e1 e2 e3 (hf16 e c21)
            · refine g_il1 dX0_shortRuns_24 ?_
              refine g_il6 dX0_shortRuns_25 ?_
              refine g_ishr dX0_shortRuns_27 ?_
              refine g_iconst (v := nI 1) dX0_shortRuns_28 rfl ?_
              refine g_iand dX0_shortRuns_29 ?_
              refine g_top ((b_at (by omega)).trans (congrArg bI (hx e (by omega)))) ?_
              refine g_if_eq_b (tgt := 39) dX0_shortRuns_30 (by decide) (fun c30 => ?_) (fun c30 => ?_)
              · exact part e w7 e1 e2 e3 c30
              · refine g_ic6_n dX0_shortRuns_33 ?_
                refine g_goto (tgt := 17) dX0_shortRuns_36 (by decide) ?_
                refine ih2 (e + 1) (by omega) (by omega) (by omega) (fun t t1 t2 => ?_)
                rcases Nat.lt_or_ge t e with z | z
                · exact e3 t t1 z
                · rw [show t = e by omega]
                  exact c30
        refine g_il5 dX0_shortRuns_13 ?_
        refine g_is6 dX0_shortRuns_15 ?_
        exact inner 17 j (by omega) (Nat.le_refl _) (by omega) (fun t t1 t2 => by omega)
  refine g_iconst (v := nI 0) dX0_shortRuns_0 rfl ?_
  refine g_top (nI_0) ?_
  refine g_is4 dX0_shortRuns_1 ?_
  refine g_iconst (v := nI 0) dX0_shortRuns_3 rfl ?_
  refine g_is5 dX0_shortRuns_4 ?_
  exact loop 18 0 0 none none (by omega) (by omega) (Or.inl rfl) (fun t _ => by rw [b_0]; rfl)
end RUN0
end
section
set_option maxRecDepth 100000
/-! DrcScan: markRun, markShortRows, markedArea, thin, gaps -/
theorem Swp.to {g : Nat → Nat → Bool} {n : Nat} {X : Nat → Nat} {u u' : gS} (h : Swp g n X u) (h9 : u' 9 0 = u 9 0) (h5 : u' 5 = u 5) (h6 : u' 6 = u 6) : Swp g n X u' := by
  unfold Swp
  rw [h9, h5, h6]
  exact h
theorem fc_bit {inn : Bool} {g : Nat → Nat → Bool} {n : Nat} {X : Nat → Nat} {u : gS} (hW : Swp g n X u) {k i j : Nat} (hk : k < n) (h1 : X k ≤ i) (h2 : i < X (k + 1)) (hj : j < 16) : fc inn g i j = (bt (u 6 k) j ^^ inn) := by
  obtain ⟨h9, n1, n2, h5, X0, Xn, Xs, h6⟩ := hW
  have := Xle Xn Xs (k + 1) (by omega)
  rw [fc_in (by omega) hj, h6 k hk i h1 h2 j (by omega)]
theorem fc_col {inn : Bool} {g : Nat → Nat → Bool} {n : Nat} {X : Nat → Nat} {u : gS} (gj : ∀ i j, 16 ≤ j → g i j = false) (hW : Swp g n X u) {k i : Nat} (hk : k < n) (h1 : X k ≤ i) (h2 : i < X (k + 1)) : fc inn g i = fc inn g (X k) := by
  funext j
  rcases Nat.lt_or_ge j 16 with z | z
  · rw [fc_bit hW hk h1 h2 z, fc_bit hW hk (Nat.le_refl _) (by omega) z]
  · rw [fc_j gj z, fc_j gj z]
def thV (la w : Int32) : Bool := lay la && (!(decide (w < nI 1)) && !(decide (nI 8 < w)))
def mkR (inn : Bool) (c : Nat → Nat) (q : Nat → Nat → Nat) (la w : Int32) : Int32 := if thV la w = true then nI (sMark inn (has c q la.toNatClampNeg) w.toNatClampNeg) else -2
theorem w_n {w : Int32} (h1 : ¬ w < nI 1) (h2 : ¬ nI 8 < w) : ∃ n : Nat, 1 ≤ n ∧ n ≤ 8 ∧ w = nI n := by
  have h0 : ¬ w < 0 := by
    intro h
    apply h1
    rw [Int32.lt_iff_toInt_lt] at h ⊢
    rw [nI_toInt (by omega)]
    rw [Int32.toInt_zero] at h
    omega
  obtain ⟨j, hj, rfl⟩ := nI_of h0
  have a1 := mt (nI_ltI (a := j) (b := 1) hj (by omega)).mpr h1
  have a2 := mt (nI_ltI (a := 8) (b := j) (by omega) hj).mpr h2
  exact ⟨j, by omega, by omega, rfl⟩
theorem mkR_ok {inn : Bool} {c : Nat → Nat} {q : Nat → Nat → Nat} {a w : Nat} (ha : a < 3) (h1 : 1 ≤ w) (h2 : w ≤ 8) : mkR inn c q (nI a) (nI w) = nI (sMark inn (has c q a) w) := by
  have : thV (nI a) (nI w) = true := by
    unfold thV
    rw [lay_nI ha, decide_eq_false (nI_nlt h1 (by omega)), decide_eq_false (nI_nlt h2 (by omega))]
    rfl
  unfold mkR
  rw [this, nI_clamp (by omega), nI_clamp (by omega)]
  rfl
theorem gg_1 (c : Nat → Nat) (q : Nat → Nat → Nat) (a : Nat) : gg c q 1 a a = has c q a := by
  funext i j
  show (has c q a i j || has c q a i j) = _
  rw [Bool.or_self]
theorem gg_0 (c : Nat → Nat) (q : Nat → Nat → Nat) (a : Nat) : gg c q 0 a a = has c q a := by
  funext i j
  show (has c q a i j && has c q a i j) = _
  rw [Bool.and_self]
theorem gap_bits {g : Nat → Nat → Bool} {x y : Nat} {s : Int32} (hy : y ≤ 16) (hxy : x < y) (h : ∀ j, j < 32 → bt s j = g x j) (gj : ∀ i j, 16 ≤ j → g i j = false) {j : Nat} (hj : j < 32) : bt ((s ^^^ (-1)) &&& 65535) j = fc true g x j := by
  rw [b_and, b_not s hj, h j hj, b_65535]
  show _ = ((decide (x < 16) && decide (j < 16)) && !g x j)
  rw [decide_eq_true (show x < 16 by omega), Bool.true_and, Bool.and_comm]
section MRK0
variable {l : Launch} {D : va_G} {ad : Nat → Nat} {kd : Nat → ClassId} {σ : gS} {c : Nat → Nat} {q : Nat → Nat → Nat} {g : Nat → Nat → Bool} {n : Nat} {X : Nat → Nat} {inn : Bool} {w : Nat}
theorem m0_markRun (hW : Swp g n X σ) (gi : ∀ i j, 16 ≤ i → g i j = false) {j k : Nat} (hj : j < 16) (hk : k < n) (hw : w < 2 ^ 31) (hpre : fc inn g (X k) j = true → X k = 0 ∨ fc inn g (X k - 1) j = false) : C0_markRun 0 l D ad kd [.int (nI j), .int (nI k), .int (nI w), .int (bI inn)] σ (fun r u => ∃ (e : Nat) (m7 : Nat → Int32), r = nI e ∧ k < e ∧ e ≤ n ∧ (e < n → fc inn g (X e) j = true → fc inn g (X e - 1) j = false) ∧ u = sf σ 7 m7 ∧ ∀ s, s < n → ∀ i, X s ≤ i → i < X (s + 1) → ∀ t, t < 32 → bt (m7 s) t = (bt (σ 7 s) t || ((decide (t = j) && (decide (k ≤ s) && decide (s < e))) && short (fun x => fc inn g x t) w inn i))) := by
  refine Con.of (lv := [some (.ref (ad 0)), some (.int (nI j)), some (.int (nI k)), some (.int (nI w)), some (.int (bI inn)), none, none, none, none]) (by decide) rfl (Nat.le_of_ble_eq_true rfl) (by simp [Value.category]) (Nat.le_of_ble_eq_true rfl) rfl (fun sz => ?_)
  obtain ⟨h9, n1, n2, h5, X0, Xn, Xs, h6⟩ := id hW
  have hX := Xle Xn Xs
  have hM := Xmono Xs
  -- nothing marked
  have none7 : ∀ e, (∀ s, k ≤ s → s < e → ∀ i, X s ≤ i → i < X (s + 1) → short (fun x => fc inn g x j) w inn i = false) → ∀ s, s < n → ∀ i, X s ≤ i → i < X (s + 1) → ∀ t, t < 32 → bt (σ 7 s) t = (bt (σ 7 s) t || ((decide (t = j) && (decide (k ≤ s) && decide (s < e))) && short (fun x => fc inn g x t) w inn i)) := by
    intro e hz s hs i i1 i2 t ht
    by_cases z : t = j
    · subst z
      by_cases z1 : k ≤ s
      · by_cases z2 : s < e
        · rw [hz s z1 z2 i i1 i2, Bool.and_false, Bool.or_false]
        · rw [decide_eq_false z2, Bool.and_false, Bool.and_false, Bool.false_and, Bool.or_false]
      · rw [decide_eq_false z1, Bool.false_and, Bool.and_false, Bool.false_and, Bool.or_false]
    · rw [decide_eq_false z, Bool.false_and, Bool.false_and, Bool.or_false]
  have part : ∀ e, k ≤ e → e ≤ n → (∀ i, X k ≤ i → i < X e → fc inn g i j = true) → fc inn g (X e) j = false → J0_markRun 0 l D ad kd [.int (nI j), .int (nI k), .int (nI w), .int (bI inn)] σ sz (fun r u => ∃ (e : Nat) (m7 : Nat → Int32), r = nI e ∧ k < e ∧ e ≤ n ∧ (e < n → fc inn g (X e) j = true → fc inn g (X e - 1) j = false) ∧ u = sf σ 7 m7 ∧ ∀ s, s < n → ∀ i, X s ≤ i → i < X (s + 1) → ∀ t, t < 32 → bt (m7 s) t = (bt (σ 7 s) t || ((decide (t = j) && (decide (k ≤ s) && decide (s < e))) && short (fun x => fc inn g x t) w inn i))) σ 46 [some (.ref (ad 0)), some (.int (nI j)), some (.int (nI k)), some (.int (nI w)), some (.int (bI inn)), some (.int (bI (!inn))), some (.int (nI e)), none, none] [] := by
    intro e e1 e2 e3 e4
    refine g_il6 dX0_markRun_46 ?_
    refine g_il2 dX0_markRun_48 ?_
    refine g_icmp_ne_n (tgt := 56) dX0_markRun_49 (by decide) (by omega) (by omega) (fun c49 => ?_) (fun c49 => ?_)
    · have e5 : k < e := by omega
      have hke := hM (e - k) k (by omega)
      rw [show k + (e - k) = e by omega] at hke
      have hrun : ∀ s, k ≤ s → s < e → ∀ i, X s ≤ i → i < X (s + 1) → short (fun x => fc inn g x j) w inn i = (decide (X e - X k < w) && (!inn || (!decide (X k = 0) && !decide (X e = 16)))) := by
        intro s s1 s2 i i1 i2
        have a1 := hM (s - k) k (by omega)
        rw [show k + (s - k) = s by omega] at a1
        have a2 := hM (e - (s + 1)) (s + 1) (by omega)
        rw [show s + 1 + (e - (s + 1)) = e by omega] at a2
        exact short_run (f := fun x => fc inn g x j) (s := X k) (e := X e) (by omega) (by omega) (hX e e2) e3 (hpre (e3 (X k) (Nat.le_refl _) (by omega))) e4
      have hX0 : (X k = 0) ↔ k = 0 := by
        have := hM k 0 (by omega)
        rw [Nat.zero_add, X0] at this
        constructor
        · intro z; omega
        · intro z; rw [z, X0]
      have hXn : (X e = 16) ↔ e = n := by
        have := hM (n - e) e (by omega)
        rw [show e + (n - e) = n by omega, Xn] at this
        constructor
        · intro z; omega
        · intro z; rw [z, Xn]
      have fin : ∀ (m7 : Nat → Int32) (w7 w8 : Option Value), (∀ s, s < n → ∀ i, X s ≤ i → i < X (s + 1) → ∀ t, t < 32 → bt (m7 s) t = (bt (σ 7 s) t || ((decide (t = j) && (decide (k ≤ s) && decide (s < e))) && short (fun x => fc inn g x t) w inn i))) → J0_markRun 0 l D ad kd [.int (nI j), .int (nI k), .int (nI w), .int (bI inn)] σ sz (fun r u => ∃ (e : Nat) (m7 : Nat → Int32), r = nI e ∧ k < e ∧ e ≤ n ∧ (e < n → fc inn g (X e) j = true → fc inn g (X e - 1) j = false) ∧ u = sf σ 7 m7 ∧ ∀ s, s < n → ∀ i, X s ≤ i → i < X (s + 1) → ∀ t, t < 32 → bt (m7 s) t = (bt (σ 7 s) t || ((decide (t = j) && (decide (k ≤ s) && decide (s < e))) && short (fun x => fc inn g x t) w inn i))) (sf σ 7 m7) 133 [some (.ref (ad 0)), some (.int (nI j)), some (.int (nI k)), some (.int (nI w)), some (.int (bI inn)), some (.int (bI (!inn))), some (.int (nI e)), w7, w8] [] := by
        intro m7 w7 w8 hm
        refine g_il6 dX0_markRun_133 ?_
        exact g_iret dX0_markRun_135 ⟨e, m7, rfl, e5, e2, fun _ z => absurd z (by rw [e4]; decide), rfl, hm⟩
      have skp : ∀ (w7 w8 : Option Value), (decide (X e - X k < w) && (!inn || (!decide (X k = 0) && !decide (X e = 16)))) = false → J0_markRun 0 l D ad kd [.int (nI j), .int (nI k), .int (nI w), .int (bI inn)] σ sz (fun r u => ∃ (e : Nat) (m7 : Nat → Int32), r = nI e ∧ k < e ∧ e ≤ n ∧ (e < n → fc inn g (X e) j = true → fc inn g (X e - 1) j = false) ∧ u = sf σ 7 m7 ∧ ∀ s, s < n → ∀ i, X s ≤ i → i < X (s + 1) → ∀ t, t < 32 → bt (m7 s) t = (bt (σ 7 s) t || ((decide (t = j) && (decide (k ≤ s) && decide (s < e))) && short (fun x => fc inn g x t) w inn i))) σ 133 [some (.ref (ad 0)), some (.int (nI j)), some (.int (nI k)), some (.int (nI w)), some (.int (bI inn)), some (.int (bI (!inn))), some (.int (nI e)), w7, w8] [] := by
        intro w7 w8 hz
        have h0 := fin (σ 7) w7 w8 (none7 e (fun s s1 s2 i i1 i2 => by rw [hrun s s1 s2 i i1 i2, hz]))
        rw [sf_self] at h0
        exact h0
      have p74 : ∀ op : Bool, op = (decide (k = 0) || decide (e = n)) → J0_markRun 0 l D ad kd [.int (nI j), .int (nI k), .int (nI w), .int (bI inn)] σ sz (fun r u => ∃ (e : Nat) (m7 : Nat → Int32), r = nI e ∧ k < e ∧ e ≤ n ∧ (e < n → fc inn g (X e) j = true → fc inn g (X e - 1) j = false) ∧ u = sf σ 7 m7 ∧ ∀ s, s < n → ∀ i, X s ≤ i → i < X (s + 1) → ∀ t, t < 32 → bt (m7 s) t = (bt (σ 7 s) t || ((decide (t = j) && (decide (k ≤ s) && decide (s < e))) && short (fun x => fc inn g x t) w inn i))) σ 74 [some (.ref (ad 0)), some (.int (nI j)), some (.int (nI k)), some (.int (nI w)), some (.int (bI inn)), some (.int (bI (!inn))), some (.int (nI e)), none, none] [.int (bI op)] := by
        intro op hop
        refine g_is7 dX0_markRun_74 ?_
        refine g_al0 dX0_markRun_76 ?_
        refine g0_f23 dX0_markRun_77 ?_
        refine g_il6 dX0_markRun_80 ?_
        refine g0_ld5 dX0_markRun_82 (by omega) ?_
        refine g_top (h5 e e2) ?_
        refine g_al0 dX0_markRun_83 ?_
        refine g0_f23 dX0_markRun_84 ?_
        refine g_il2 dX0_markRun_87 ?_
        refine g0_ld5 dX0_markRun_88 (by omega) ?_
        refine g_top (h5 k (by omega)) ?_
        refine g_isub_n dX0_markRun_89 (by omega) ?_
        refine g_il3 dX0_markRun_90 ?_
        have hXe := hX e e2
        refine g_icmp_ge_n (tgt := 133) dX0_markRun_91 (by decide) (by omega) (by omega) (fun c91 => ?_) (fun c91 => ?_)
        · exact skp _ _ (by rw [decide_eq_false (by omega)]; rfl)
        · have mark : (inn && op) = false → J0_markRun 0 l D ad kd [.int (nI j), .int (nI k), .int (nI w), .int (bI inn)] σ sz (fun r u => ∃ (e : Nat) (m7 : Nat → Int32), r = nI e ∧ k < e ∧ e ≤ n ∧ (e < n → fc inn g (X e) j = true → fc inn g (X e - 1) j = false) ∧ u = sf σ 7 m7 ∧ ∀ s, s < n → ∀ i, X s ≤ i → i < X (s + 1) → ∀ t, t < 32 → bt (m7 s) t = (bt (σ 7 s) t || ((decide (t = j) && (decide (k ≤ s) && decide (s < e))) && short (fun x => fc inn g x t) w inn i))) σ 104 [some (.ref (ad 0)), some (.int (nI j)), some (.int (nI k)), some (.int (nI w)), some (.int (bI inn)), some (.int (bI (!inn))), some (.int (nI e)), some (.int (bI op)), none] [] := by
            intro ho
            have hh : (!inn || (!decide (X k = 0) && !decide (X e = 16))) = true := by
              rw [show decide (X k = 0) = decide (k = 0) from decide_eq_decide.mpr hX0, show decide (X e = 16) = decide (e = n) from decide_eq_decide.mpr hXn]
              rw [hop] at ho
              revert ho
              generalize decide (k = 0) = p1
              generalize decide (e = n) = p2
              cases inn <;> cases p1 <;> cases p2 <;> simp
            have loop : ∀ (d s : Nat) (m7 : Nat → Int32), e - s < d → k ≤ s → s ≤ e → (∀ z, z < n → ∀ t, t < 32 → bt (m7 z) t = (bt (σ 7 z) t || (decide (t = j) && (decide (k ≤ z) && decide (z < s))))) → J0_markRun 0 l D ad kd [.int (nI j), .int (nI k), .int (nI w), .int (bI inn)] σ sz (fun r u => ∃ (e : Nat) (m7 : Nat → Int32), r = nI e ∧ k < e ∧ e ≤ n ∧ (e < n → fc inn g (X e) j = true → fc inn g (X e - 1) j = false) ∧ u = sf σ 7 m7 ∧ ∀ s, s < n → ∀ i, X s ≤ i → i < X (s + 1) → ∀ t, t < 32 → bt (m7 s) t = (bt (σ 7 s) t || ((decide (t = j) && (decide (k ≤ s) && decide (s < e))) && short (fun x => fc inn g x t) w inn i))) (sf σ 7 m7) 107 [some (.ref (ad 0)), some (.int (nI j)), some (.int (nI k)), some (.int (nI w)), some (.int (bI inn)), some (.int (bI (!inn))), some (.int (nI e)), some (.int (bI op)), some (.int (nI s))] [] := by
              intro d
              induction d with
              | zero => intro s m7 z; omega
              | succ d ih =>
                intro s m7 hd s1 s2 hm
                refine g_il8 dX0_markRun_107 ?_
                refine g_il6 dX0_markRun_109 ?_
                refine g_icmp_ge_n (tgt := 133) dX0_markRun_111 (by decide) (by omega) (by omega) (fun c111 => ?_) (fun c111 => ?_)
                · refine fin m7 _ _ (fun z hz i i1 i2 t ht => ?_)
                  rw [hm z hz t ht, show s = e by omega]
                  congr 1
                  by_cases y : t = j
                  · subst y
                    by_cases y1 : k ≤ z
                    · by_cases y2 : z < e
                      · rw [hrun z y1 y2 i i1 i2, decide_eq_true c91, hh, Bool.and_true, Bool.and_true]
                      · rw [decide_eq_false y2, Bool.and_false, Bool.and_false, Bool.false_and]
                    · rw [decide_eq_false y1, Bool.false_and, Bool.and_false, Bool.false_and]
                  · rw [decide_eq_false y, Bool.false_and, Bool.false_and]
                · refine g_al0 dX0_markRun_114 ?_
                  refine g0_f29 dX0_markRun_115 ?_
                  refine g_il8 dX0_markRun_118 ?_
                  refine g_dup2 dX0_markRun_120 rfl rfl ?_
                  refine g0_ld7 dX0_markRun_121 (by omega) ?_
                  refine g_iconst (v := nI 1) dX0_markRun_122 rfl ?_
                  refine g_il1 dX0_markRun_123 ?_
                  refine g_ishl dX0_markRun_124 ?_
                  refine g_ior dX0_markRun_125 ?_
                  refine g0_st7 dX0_markRun_126 (by omega) ?_
                  refine g_ws (congrArg (w0 ad kd) (sf_sf _ _ _ _)) ?_
                  refine g_ic8_n dX0_markRun_127 ?_
                  refine g_goto (tgt := 107) dX0_markRun_130 (by decide) ?_
                  refine ih (s + 1) _ (by omega) (by omega) (by omega) (fun z hz t ht => ?_)
                  show bt (upd m7 s (m7 s ||| (nI 1 <<< (nI j &&& 31))) z) t = _
                  by_cases y : z = s
                  · subst y
                    rw [pk_us, b_or, b_pow (by omega) ht, hm z hz t ht, decide_eq_false (show ¬ z < z by omega), decide_eq_true s1, decide_eq_true (show z < z + 1 by omega)]
                    simp
                  · rw [pk_un y, hm z hz t ht, show decide (z < s + 1) = decide (z < s) from decide_eq_decide.mpr (by omega)]
            refine g_il2 dX0_markRun_104 ?_
            refine g_is8 dX0_markRun_105 ?_
            have h0 := loop (e - k + 1) k (σ 7) (by omega) (Nat.le_refl _) (by omega) (fun z hz t ht => by
              by_cases y : k ≤ z
              · rw [decide_eq_false (show ¬ z < k by omega), Bool.and_false, Bool.and_false, Bool.or_false]
              · rw [decide_eq_false y, Bool.false_and, Bool.and_false, Bool.or_false])
            rw [sf_self] at h0
            exact h0
          refine g_il4 dX0_markRun_94 ?_
          refine g_if_eq_b (tgt := 104) dX0_markRun_96 (by decide) (fun c96 => ?_) (fun c96 => ?_)
          · exact mark (by rw [c96]; rfl)
          · refine g_il7 dX0_markRun_99 ?_
            refine g_if_ne_b (tgt := 133) dX0_markRun_101 (by decide) (fun c101 => ?_) (fun c101 => ?_)
            · refine skp _ _ ?_
              rw [show decide (X k = 0) = decide (k = 0) from decide_eq_decide.mpr hX0, show decide (X e = 16) = decide (e = n) from decide_eq_decide.mpr hXn, c96]
              rw [hop] at c101
              revert c101
              generalize decide (k = 0) = p1
              generalize decide (e = n) = p2
              cases p1 <;> cases p2 <;> simp
            · exact mark (by rw [c101, Bool.and_false])
      refine g_il2 dX0_markRun_56 ?_
      refine g_top (rfl) ?_
      refine g_if_eq (tgt := 69) dX0_markRun_57 (by decide) (fun c57 => ?_) (fun c57 => ?_)
      · refine g_iconst (v := nI 1) dX0_markRun_69 rfl ?_
        refine g_goto (tgt := 74) dX0_markRun_70 (by decide) ?_
        exact p74 true (by rw [decide_eq_true ((nI_eq (by omega) (by omega)).mp (c57.trans nI_0.symm))]; rfl)
      · have k0 : ¬ k = 0 := fun z => c57 (by rw [z]; rfl)
        refine g_il6 dX0_markRun_60 ?_
        refine g_al0 dX0_markRun_62 ?_
        refine g0_f50 dX0_markRun_63 ?_
        refine g_top (h9) ?_
        refine g_icmp_ne_n (tgt := 73) dX0_markRun_66 (by decide) (by omega) (by omega) (fun c66 => ?_) (fun c66 => ?_)
        · refine g_iconst (v := nI 0) dX0_markRun_73 rfl ?_
          exact p74 false (by rw [decide_eq_false k0, decide_eq_false c66]; rfl)
        · refine g_iconst (v := nI 1) dX0_markRun_69 rfl ?_
          refine g_goto (tgt := 74) dX0_markRun_70 (by decide) ?_
          exact p74 true (by rw [decide_eq_true c66, Bool.or_true])
    · have e5 : e = k := c49
      subst e5
      have hf0 : ∀ i, X e ≤ i → i < X (e + 1) → fc inn g i j = false := fun i i1 i2 => by
        rw [fc_bit hW hk i1 i2 hj, ← fc_bit (inn := inn) hW hk (Nat.le_refl _) (Xs e hk) hj]
        exact e4
      refine g_il2 dX0_markRun_52 ?_
      refine g_iconst (v := nI 1) dX0_markRun_53 rfl ?_
      refine g_iadd_n dX0_markRun_54 ?_
      refine g_iret dX0_markRun_55 ⟨e + 1, σ 7, rfl, by omega, by omega, fun _ _ => hf0 _ ?_ ?_, (sf_self σ 7).symm, none7 (e + 1) (fun s s1 s2 i i1 i2 => ?_)⟩
      · have := Xs e hk; omega
      · have := Xs e hk; omega
      · rw [show s = e by omega] at i1 i2
        exact short_no (f := fun x => fc inn g x j) (hf0 i i1 i2)
  have p10 : J0_markRun 0 l D ad kd [.int (nI j), .int (nI k), .int (nI w), .int (bI inn)] σ sz (fun r u => ∃ (e : Nat) (m7 : Nat → Int32), r = nI e ∧ k < e ∧ e ≤ n ∧ (e < n → fc inn g (X e) j = true → fc inn g (X e - 1) j = false) ∧ u = sf σ 7 m7 ∧ ∀ s, s < n → ∀ i, X s ≤ i → i < X (s + 1) → ∀ t, t < 32 → bt (m7 s) t = (bt (σ 7 s) t || ((decide (t = j) && (decide (k ≤ s) && decide (s < e))) && short (fun x => fc inn g x t) w inn i))) σ 10 [some (.ref (ad 0)), some (.int (nI j)), some (.int (nI k)), some (.int (nI w)), some (.int (bI inn)), none, none, none, none] [.int (bI (!inn))] := by
    have loop : ∀ (d e : Nat), n - e < d → k ≤ e → e ≤ n → (∀ i, X k ≤ i → i < X e → fc inn g i j = true) → J0_markRun 0 l D ad kd [.int (nI j), .int (nI k), .int (nI w), .int (bI inn)] σ sz (fun r u => ∃ (e : Nat) (m7 : Nat → Int32), r = nI e ∧ k < e ∧ e ≤ n ∧ (e < n → fc inn g (X e) j = true → fc inn g (X e - 1) j = false) ∧ u = sf σ 7 m7 ∧ ∀ s, s < n → ∀ i, X s ≤ i → i < X (s + 1) → ∀ t, t < 32 → bt (m7 s) t = (bt (σ 7 s) t || ((decide (t = j) && (decide (k ≤ s) && decide (s < e))) && short (fun x => fc inn g x t) w inn i))) σ 15 [some (.ref (ad 0)), some (.int (nI j)), some (.int (nI k)), some (.int (nI w)), some (.int (bI inn)), some (.int (bI (!inn))), some (.int (nI e)), none, none] [] := by
      intro d
      induction d with
      | zero => intro e z; omega
      | succ d ih =>
        intro e hd e1 e2 e3
        refine g_il6 dX0_markRun_15 ?_
        refine g_al0 dX0_markRun_17 ?_
        refine g0_f50 dX0_markRun_18 ?_
        refine g_top (h9) ?_
        refine g_icmp_ge_n (tgt := 46) dX0_markRun_21 (by decide) (by omega) (by omega) (fun c21 => ?_) (fun c21 => ?_)
        · exact part e e1 e2 e3 (by rw [show e = n by omega, Xn]; exact fc_i gi (Nat.le_refl _))
        · refine g_al0 dX0_markRun_24 ?_
          refine g0_f26 dX0_markRun_25 ?_
          refine g_il6 dX0_markRun_28 ?_
          refine g0_ld6 dX0_markRun_30 (by omega) ?_
          refine g_il1 dX0_markRun_31 ?_
          refine g_ishr dX0_markRun_32 ?_
          refine g_iconst (v := nI 1) dX0_markRun_33 rfl ?_
          refine g_iand dX0_markRun_34 ?_
          refine g_top (b_at (by omega)) ?_
          refine g_il5 dX0_markRun_35 ?_
          refine g_icmp_ne (tgt := 46) dX0_markRun_37 (by decide) (fun c37 => ?_) (fun c37 => ?_)
          · refine part e e1 e2 e3 ?_
            rw [fc_bit hW c21 (Nat.le_refl _) (Xs e c21) hj]
            have c37 : ¬ bt (σ 6 e) j = !inn := fun z => c37 (by rw [z])
            revert c37
            cases bt (σ 6 e) j <;> cases inn <;> simp
          · refine g_ic6_n dX0_markRun_40 ?_
            refine g_goto (tgt := 15) dX0_markRun_43 (by decide) ?_
            refine ih (e + 1) (by omega) (by omega) (by omega) (fun i i1 i2 => ?_)
            rcases Nat.lt_or_ge i (X e) with z | z
            · exact e3 i i1 z
            · rw [fc_bit hW c21 z i2 hj, bI_inj.mp c37]
              cases inn <;> rfl
    refine g_is5 dX0_markRun_10 ?_
    refine g_il2 dX0_markRun_12 ?_
    refine g_is6 dX0_markRun_13 ?_
    exact loop (n - k + 1) k (by omega) (Nat.le_refl _) (by omega) (fun i i1 i2 => by omega)
  refine g_il4 dX0_markRun_0 ?_
  refine g_if_eq_b (tgt := 9) dX0_markRun_2 (by decide) (fun c2 => ?_) (fun c2 => ?_)
  · refine g_iconst (v := nI 1) dX0_markRun_9 rfl ?_
    refine g_top (show nI 1 = bI (!inn) by rw [c2]; rfl) ?_
    exact p10
  · refine g_iconst (v := nI 0) dX0_markRun_5 rfl ?_
    refine g_top (show nI 0 = bI (!inn) by rw [c2]; rfl) ?_
    refine g_goto (tgt := 10) dX0_markRun_6 (by decide) ?_
    exact p10
theorem m0_markShortRows (hW : Swp g n X σ) (gi : ∀ i j, 16 ≤ i → g i j = false) (hw : w < 2 ^ 31) : C0_markShortRows 1 l D ad kd [.int (nI w), .int (bI inn)] σ (fun u => ∃ m7 : Nat → Int32, u = sf σ 7 m7 ∧ ∀ s, s < n → ∀ i, X s ≤ i → i < X (s + 1) → ∀ t, t < 32 → bt (m7 s) t = (bt (σ 7 s) t || (decide (t < 16) && short (fun x => fc inn g x t) w inn i))) := by
  refine ConV.of (lv := [some (.ref (ad 0)), some (.int (nI w)), some (.int (bI inn)), none, none]) (by decide) rfl (Nat.le_of_ble_eq_true rfl) (by simp [Value.category]) (Nat.le_of_ble_eq_true rfl) rfl (fun sz => ?_)
  obtain ⟨h9, n1, n2, h5, X0, Xn, Xs, h6⟩ := id hW
  have loop : ∀ (d j : Nat) (m7 : Nat → Int32) (w4 : Option Value), 16 - j < d → j ≤ 16 → (∀ s, s < n → ∀ i, X s ≤ i → i < X (s + 1) → ∀ t, t < 32 → bt (m7 s) t = (bt (σ 7 s) t || (decide (t < j) && short (fun x => fc inn g x t) w inn i))) → J0_markShortRows 1 l D ad kd [.int (nI w), .int (bI inn)] σ sz (fun u => ∃ m7 : Nat → Int32, u = sf σ 7 m7 ∧ ∀ s, s < n → ∀ i, X s ≤ i → i < X (s + 1) → ∀ t, t < 32 → bt (m7 s) t = (bt (σ 7 s) t || (decide (t < 16) && short (fun x => fc inn g x t) w inn i))) (sf σ 7 m7) 2 [some (.ref (ad 0)), some (.int (nI w)), some (.int (bI inn)), some (.int (nI j)), w4] [] := by
    intro d
    induction d with
    | zero => intro j m7 w4 z; omega
    | succ d ih =>
      intro j m7 w4 hd hj hm
      refine g_il3 dX0_markShortRows_2 ?_
      refine g_bipush (v := nI 16) dX0_markShortRows_3 rfl ?_
      refine g_icmp_ge_n (tgt := 40) dX0_markShortRows_5 (by decide) (by omega) (by omega) (fun c5 => ?_) (fun c5 => ?_)
      · have e : j = 16 := by omega
        subst e
        exact g_vret dX0_markShortRows_40 (⟨m7, rfl, hm⟩)
      · have inner : ∀ (d2 k : Nat) (m7 : Nat → Int32), n - k < d2 → k ≤ n → (k < n → fc inn g (X k) j = true → X k = 0 ∨ fc inn g (X k - 1) j = false) → (∀ s, s < n → ∀ i, X s ≤ i → i < X (s + 1) → ∀ t, t < 32 → bt (m7 s) t = (bt (σ 7 s) t || ((decide (t < j) || (decide (t = j) && decide (s < k))) && short (fun x => fc inn g x t) w inn i))) → J0_markShortRows 1 l D ad kd [.int (nI w), .int (bI inn)] σ sz (fun u => ∃ m7 : Nat → Int32, u = sf σ 7 m7 ∧ ∀ s, s < n → ∀ i, X s ≤ i → i < X (s + 1) → ∀ t, t < 32 → bt (m7 s) t = (bt (σ 7 s) t || (decide (t < 16) && short (fun x => fc inn g x t) w inn i))) (sf σ 7 m7) 11 [some (.ref (ad 0)), some (.int (nI w)), some (.int (bI inn)), some (.int (nI j)), some (.int (nI k))] [] := by
          intro d2
          induction d2 with
          | zero => intro k m7 z; omega
          | succ d2 ih2 =>
            intro k m7 hd2 hk hp hm
            refine g_il4 dX0_markShortRows_11 ?_
            refine g_al0 dX0_markShortRows_13 ?_
            refine g0_f50 dX0_markShortRows_14 ?_
            refine g_top (h9) ?_
            refine g_icmp_ge_n (tgt := 34) dX0_markShortRows_17 (by decide) (by omega) (by omega) (fun c17 => ?_) (fun c17 => ?_)
            · refine g_ic3_n dX0_markShortRows_34 ?_
              refine g_goto (tgt := 2) dX0_markShortRows_37 (by decide) ?_
              refine ih (j + 1) m7 _ (by omega) (by omega) (fun s hs i i1 i2 t ht => ?_)
              rw [hm s hs i i1 i2 t ht, decide_eq_true (show s < k by omega), Bool.and_true]
              congr 2
              by_cases z : t < j
              · rw [decide_eq_true z, decide_eq_true (show t < j + 1 by omega)]
                rfl
              · rw [decide_eq_false z, show decide (t = j) = decide (t < j + 1) from decide_eq_decide.mpr (by omega)]
                rfl
            · refine g_al0 dX0_markShortRows_20 ?_
              refine g_il3 dX0_markShortRows_21 ?_
              refine g_il4 dX0_markShortRows_22 ?_
              refine g_il1 dX0_markShortRows_24 ?_
              refine g_il2 dX0_markShortRows_25 ?_
              refine k0_84 dX0_markShortRows_26 (m0_markRun (σ := sf σ 7 m7) (n := n) (X := X) (g := g) (hW.to rfl rfl rfl) gi c5 c17 hw (hp c17)) (by decide) (Nat.le_of_ble_eq_true rfl) ?_
              rintro r u ⟨e, m8, rfl, e1, e2, e3, hu, hm8⟩
              rw [hu, sf_sf]
              clear hu
              refine g_is4 dX0_markShortRows_29 ?_
              refine g_goto (tgt := 11) dX0_markShortRows_31 (by decide) ?_
              refine ih2 e m8 (by omega) e2 (fun z1 z2 => Or.inr (e3 z1 z2)) (fun s hs i i1 i2 t ht => ?_)
              rw [hm8 s hs i i1 i2 t ht]
              show (bt (m7 s) t || _) = _
              rw [hm s hs i i1 i2 t ht, Bool.or_assoc]
              congr 1
              rw [← Bool.and_or_distrib_right]
              congr 1
              by_cases z : t = j
              · rw [decide_eq_true z, decide_eq_false (show ¬ t < j by omega), Bool.false_or, Bool.true_and, Bool.true_and, Bool.false_or, Bool.true_and]
                by_cases y : s < k
                · rw [decide_eq_true y, decide_eq_true (show s < e by omega)]
                  rfl
                · rw [decide_eq_false y, decide_eq_true (show k ≤ s by omega)]
                  rfl
              · rw [decide_eq_false z, Bool.false_and, Bool.false_and, Bool.false_and, Bool.or_false, Bool.or_false]
        refine g_iconst (v := nI 0) dX0_markShortRows_8 rfl ?_
        refine g_is4 dX0_markShortRows_9 ?_
        exact inner (n + 1) 0 m7 (by omega) (by omega) (fun _ _ => Or.inl X0) (fun s hs i i1 i2 t ht => by rw [hm s hs i i1 i2 t ht, decide_eq_false (Nat.not_lt_zero s), Bool.and_false, Bool.or_false])
  refine g_iconst (v := nI 0) dX0_markShortRows_0 rfl ?_
  refine g_is3 dX0_markShortRows_1 ?_
  have h0 := loop 17 0 (σ 7) none (by omega) (by omega) (fun s hs i i1 i2 t ht => by rw [decide_eq_false (Nat.not_lt_zero t), Bool.false_and, Bool.or_false])
  rw [sf_self] at h0
  exact h0
theorem m0_markedArea (hW : Swp g n X σ) {M : Nat → Nat → Bool} (hM : ∀ s, s < n → ∀ i, X s ≤ i → i < X (s + 1) → ∀ t, t < 32 → bt (σ 7 s) t = M i t) : C0_markedArea 1 l D ad kd [] σ (fun r u => u = σ ∧ r = nI (sm (fun i => sm (fun j => tn (M i j)) 18) 16)) := by
  refine Con.of (lv := [some (.ref (ad 0)), none, none]) (by decide) rfl (Nat.le_of_ble_eq_true rfl) (by simp [Value.category]) (Nat.le_of_ble_eq_true rfl) rfl (fun sz => ?_)
  obtain ⟨h9, n1, n2, h5, X0, Xn, Xs, h6⟩ := hW
  have loop : ∀ (f k : Nat), n - k < f → k ≤ n → J0_markedArea 1 l D ad kd [] σ sz (fun r u => u = σ ∧ r = nI (sm (fun i => sm (fun j => tn (M i j)) 18) 16)) σ 4 [some (.ref (ad 0)), some (.int (nI (sm (fun i => sm (fun j => tn (M i j)) 18) (X k)))), some (.int (nI k))] [] := by
    intro f
    induction f with
    | zero => intro k z; omega
    | succ f ih =>
      intro k hf hk
      refine g_il2 dX0_markedArea_4 ?_
      refine g_al0 dX0_markedArea_5 ?_
      refine g0_f50 dX0_markedArea_6 ?_
      refine g_top (h9) ?_
      refine g_icmp_ge_n (tgt := 37) dX0_markedArea_9 (by decide) (by omega) (by omega) (fun c9 => ?_) (fun c9 => ?_)
      · have e : k = n := by omega
        subst e
        refine g_il1 dX0_markedArea_37 ?_
        exact g_iret dX0_markedArea_38 (⟨rfl, by rw [Xn]⟩)
      · have c1 := Xs k (by omega)
        refine g_il1 dX0_markedArea_12 ?_
        refine g_al0 dX0_markedArea_13 ?_
        refine g_il2 dX0_markedArea_14 ?_
        refine k0_54 dX0_markedArea_15 (m0_widthOf (by omega) (h5 k (by omega)) (h5 (k + 1) (by omega)) (Nat.le_of_lt c1)) (by decide) (Nat.le_of_ble_eq_true rfl) ?_
        rintro r u2 ⟨hu, rfl⟩
        rw [hu]
        clear hu
        refine g_al0 dX0_markedArea_18 ?_
        refine g_al0 dX0_markedArea_19 ?_
        refine g0_f29 dX0_markedArea_20 ?_
        refine g_il2 dX0_markedArea_23 ?_
        refine g0_ld7 dX0_markedArea_24 (by omega) ?_
        refine k0_58 dX0_markedArea_25 (m0_bitsIn _) (by decide) (Nat.le_of_ble_eq_true rfl) ?_
        rintro r u2 ⟨hu, rfl⟩
        rw [hu]
        clear hu
        refine g_imul_n dX0_markedArea_28 ?_
        refine g_iadd_n dX0_markedArea_29 ?_
        refine g_is1 dX0_markedArea_30 ?_
        refine g_ic2_n dX0_markedArea_31 ?_
        refine g_goto (tgt := 4) dX0_markedArea_34 (by decide) ?_
        have e : sm (fun i => sm (fun j => tn (M i j)) 18) (X k) + (X (k + 1) - X k) * bits (σ 7 k) = sm (fun i => sm (fun j => tn (M i j)) 18) (X (k + 1)) := (sm_strip (Nat.le_of_lt c1) (fun i i1 i2 => (bits_of (fun j hj => hM k (by omega) i i1 i2 j (by omega))).symm)).symm
        rw [e]
        exact ih (k + 1) (by omega) (by omega)
  refine g_iconst (v := nI 0) dX0_markedArea_0 rfl ?_
  refine g_is1 dX0_markedArea_1 ?_
  refine g_iconst (v := nI 0) dX0_markedArea_2 rfl ?_
  refine g_is2 dX0_markedArea_3 ?_
  have h0 := loop 17 0 (by omega) (by omega)
  rw [X0] at h0
  exact h0
theorem m0_thin (hR : R0 c q σ) (la w : Int32) : C0_thin 2 l D ad kd [.int la, .int w] σ (fun r u => r = mkR false c q la w ∧ R0 c q u) := by
  refine Con.of (lv := [some (.ref (ad 0)), some (.int la), some (.int w), none]) (by decide) rfl (Nat.le_of_ble_eq_true rfl) (by simp [Value.category]) (Nat.le_of_ble_eq_true rfl) rfl (fun sz => ?_)
  have bad : thV la w = false → J0_thin 2 l D ad kd [.int la, .int w] σ sz (fun r u => r = mkR false c q la w ∧ R0 c q u) σ 19 [some (.ref (ad 0)), some (.int la), some (.int w), none] [] := by
    intro h
    refine g_bipush (v := -2) dX0_thin_19 rfl ?_
    exact g_iret dX0_thin_21 (⟨(if_neg (by rw [h]; decide)).symm, hR⟩)
  refine g_al0 dX0_thin_0 ?_
  refine g_il1 dX0_thin_1 ?_
  refine k0_39 dX0_thin_2 (m0_isLayer la) (by decide) (Nat.le_of_ble_eq_true rfl) ?_
  rintro r u ⟨hu, rfl⟩
  rw [hu]
  clear hu
  refine g_if_eq_b (tgt := 19) dX0_thin_5 (by decide) (fun c5 => ?_) (fun c5 => ?_)
  · exact bad (by unfold thV; rw [c5]; rfl)
  · refine g_il2 dX0_thin_8 ?_
    refine g_iconst (v := nI 1) dX0_thin_9 rfl ?_
    refine g_icmp_lt (tgt := 19) dX0_thin_10 (by decide) (fun c10 => ?_) (fun c10 => ?_)
    · exact bad (by unfold thV; rw [decide_eq_true c10, Bool.not_true, Bool.false_and, Bool.and_false])
    · refine g_il2 dX0_thin_13 ?_
      refine g_bipush (v := nI 8) dX0_thin_14 rfl ?_
      refine g_icmp_le (tgt := 22) dX0_thin_16 (by decide) (fun c16 => ?_) (fun c16 => ?_)
      · have c16 : ¬ nI 8 < w := Int32.not_lt.mpr c16
        obtain ⟨a, ha, rfl⟩ := lay_n c5
        obtain ⟨wn, w1, w2, rfl⟩ := w_n c10 c16
        rw [mkR_ok ha w1 w2]
        refine g_al0 dX0_thin_22 ?_
        refine g_iconst (v := nI 1) dX0_thin_23 rfl ?_
        refine g_il1 dX0_thin_24 ?_
        refine g_il1 dX0_thin_25 ?_
        refine k0_46 dX0_thin_26 (m0_sweep hR (h := 1) (by omega) ha ha) (by decide) (Nat.le_of_ble_eq_true rfl) ?_
        rintro u ⟨hR, n, X, hW⟩
        rw [gg_1] at hW
        have gj : ∀ i j, 16 ≤ j → has c q a i j = false := fun i j hj => has_j hR.1 ha i hj
        have gi : ∀ i j, 16 ≤ i → has c q a i j = false := fun i j hi => has_i hR.1 ha hi j
        generalize has c q a = g at hW gj gi ⊢
        obtain ⟨h9, n1, n2, h5, X0, Xn, Xs, h6⟩ := id hW
        have hX := Xle Xn Xs
        have loop : ∀ (d k : Nat) (m7 : Nat → Int32), n - k < d → k ≤ n → (∀ s, s < k → ∀ i, X s ≤ i → i < X (s + 1) → ∀ t, t < 32 → bt (m7 s) t = short (fc false g i) wn false t) → J0_thin 2 l D ad kd [.int (nI a), .int (nI wn)] σ sz (fun r u => r = nI (sMark false g wn) ∧ R0 c q u) (sf u 7 m7) 31 [some (.ref (ad 0)), some (.int (nI a)), some (.int (nI wn)), some (.int (nI k))] [] := by
          intro d
          induction d with
          | zero => intro k m7 z; omega
          | succ d ih =>
            intro k m7 hd hk hm
            refine g_il3 dX0_thin_31 ?_
            refine g_al0 dX0_thin_32 ?_
            refine g0_f50 dX0_thin_33 ?_
            refine g_top (h9) ?_
            refine g_icmp_ge_n (tgt := 63) dX0_thin_36 (by decide) (by omega) (by omega) (fun c36 => ?_) (fun c36 => ?_)
            · have e : k = n := by omega
              subst e
              refine g_al0 dX0_thin_63 ?_
              refine g_il2 dX0_thin_64 ?_
              refine g_iconst (v := nI 0) dX0_thin_65 rfl ?_
              refine g_top (show nI 0 = bI false from rfl) ?_
              refine k0_65 dX0_thin_66 (m0_markShortRows (σ := sf u 7 m7) (n := k) (X := X) (g := g) (hW.to rfl rfl rfl) gi (by omega)) (by decide) (Nat.le_of_ble_eq_true rfl) ?_
              rintro u2 ⟨m8, hu, hm8⟩
              rw [hu, sf_sf]
              clear hu
              refine g_al0 dX0_thin_69 ?_
              refine k0_69 dX0_thin_70 (m0_markedArea (σ := sf u 7 m8) (n := k) (X := X) (g := g) (M := mrk false g wn) (hW.to rfl rfl rfl) (fun s hs i i1 i2 t ht => ?_)) (by decide) (Nat.le_of_ble_eq_true rfl) ?_
              · show bt (m8 s) t = _
                rw [hm8 s hs i i1 i2 t ht]
                show (bt (m7 s) t || _) = _
                rw [hm s hs i i1 i2 t ht]
                unfold mrk
                congr 1
                rcases Nat.lt_or_ge t 16 with z | z
                · rw [decide_eq_true z, Bool.true_and]
                · rw [short_no (f := fun x => fc false g x t) (fc_j gj z), Bool.and_false]
              · rintro r u3 ⟨hu, rfl⟩
                rw [hu]
                clear hu
                exact g_iret dX0_thin_73 (⟨rfl, hR.to rfl rfl rfl rfl⟩)
            · refine g_al0 dX0_thin_39 ?_
              refine g0_f29 dX0_thin_40 ?_
              refine g_il3 dX0_thin_43 ?_
              refine g_al0 dX0_thin_44 ?_
              refine g_al0 dX0_thin_45 ?_
              refine g0_f26 dX0_thin_46 ?_
              refine g_il3 dX0_thin_49 ?_
              refine g0_ld6 dX0_thin_50 (by omega) ?_
              refine g_il2 dX0_thin_51 ?_
              refine g_iconst (v := nI 0) dX0_thin_52 rfl ?_
              refine g_top (show nI 0 = bI false from rfl) ?_
              refine k0_61 dX0_thin_53 (m0_shortRuns (f := fc false g (X k)) (w := wn) (by omega) false (fun j hj => ?_) (fun j hj => fc_j gj hj)) (by decide) (Nat.le_of_ble_eq_true rfl) ?_
              · exact h6 k c36 (X k) (Nat.le_refl _) (Xs k c36) j hj
              · rintro r u2 ⟨hu, hr⟩
                rw [hu]
                clear hu
                refine g0_st7 dX0_thin_56 (by omega) ?_
                refine g_ws (congrArg (w0 ad kd) (sf_sf _ _ _ _)) ?_
                refine g_ic3_n dX0_thin_57 ?_
                refine g_goto (tgt := 31) dX0_thin_60 (by decide) ?_
                refine ih (k + 1) _ (by omega) (by omega) (fun s hs i i1 i2 t ht => ?_)
                show bt (upd m7 k r s) t = _
                by_cases z : s = k
                · subst z
                  rw [pk_us, hr t ht, fc_col gj hW c36 i1 i2]
                · rw [pk_un z]
                  exact hm s (by omega) i i1 i2 t ht
        refine g_iconst (v := nI 0) dX0_thin_29 rfl ?_
        refine g_is3 dX0_thin_30 ?_
        have h0 := loop 17 0 (u 7) (by omega) (by omega) (fun s hs => absurd hs (Nat.not_lt_zero s))
        rw [sf_self] at h0
        exact h0
      · exact bad (by unfold thV; rw [decide_eq_true (Int32.not_le.mp c16), Bool.not_true, Bool.and_false, Bool.and_false])
theorem m0_gaps (hR : R0 c q σ) (la w : Int32) : C0_gaps 2 l D ad kd [.int la, .int w] σ (fun r u => r = mkR true c q la w ∧ R0 c q u) := by
  refine Con.of (lv := [some (.ref (ad 0)), some (.int la), some (.int w), none]) (by decide) rfl (Nat.le_of_ble_eq_true rfl) (by simp [Value.category]) (Nat.le_of_ble_eq_true rfl) rfl (fun sz => ?_)
  have bad : thV la w = false → J0_gaps 2 l D ad kd [.int la, .int w] σ sz (fun r u => r = mkR true c q la w ∧ R0 c q u) σ 19 [some (.ref (ad 0)), some (.int la), some (.int w), none] [] := by
    intro h
    refine g_bipush (v := -2) dX0_gaps_19 rfl ?_
    exact g_iret dX0_gaps_21 (⟨(if_neg (by rw [h]; decide)).symm, hR⟩)
  refine g_al0 dX0_gaps_0 ?_
  refine g_il1 dX0_gaps_1 ?_
  refine k0_39 dX0_gaps_2 (m0_isLayer la) (by decide) (Nat.le_of_ble_eq_true rfl) ?_
  rintro r u ⟨hu, rfl⟩
  rw [hu]
  clear hu
  refine g_if_eq_b (tgt := 19) dX0_gaps_5 (by decide) (fun c5 => ?_) (fun c5 => ?_)
  · exact bad (by unfold thV; rw [c5]; rfl)
  · refine g_il2 dX0_gaps_8 ?_
    refine g_iconst (v := nI 1) dX0_gaps_9 rfl ?_
    refine g_icmp_lt (tgt := 19) dX0_gaps_10 (by decide) (fun c10 => ?_) (fun c10 => ?_)
    · exact bad (by unfold thV; rw [decide_eq_true c10, Bool.not_true, Bool.false_and, Bool.and_false])
    · refine g_il2 dX0_gaps_13 ?_
      refine g_bipush (v := nI 8) dX0_gaps_14 rfl ?_
      refine g_icmp_le (tgt := 22) dX0_gaps_16 (by decide) (fun c16 => ?_) (fun c16 => ?_)
      · have c16 : ¬ nI 8 < w := Int32.not_lt.mpr c16
        obtain ⟨a, ha, rfl⟩ := lay_n c5
        obtain ⟨wn, w1, w2, rfl⟩ := w_n c10 c16
        rw [mkR_ok ha w1 w2]
        refine g_al0 dX0_gaps_22 ?_
        refine g_iconst (v := nI 1) dX0_gaps_23 rfl ?_
        refine g_il1 dX0_gaps_24 ?_
        refine g_il1 dX0_gaps_25 ?_
        refine k0_46 dX0_gaps_26 (m0_sweep hR (h := 1) (by omega) ha ha) (by decide) (Nat.le_of_ble_eq_true rfl) ?_
        rintro u ⟨hR, n, X, hW⟩
        rw [gg_1] at hW
        have gj : ∀ i j, 16 ≤ j → has c q a i j = false := fun i j hj => has_j hR.1 ha i hj
        have gi : ∀ i j, 16 ≤ i → has c q a i j = false := fun i j hi => has_i hR.1 ha hi j
        generalize has c q a = g at hW gj gi ⊢
        obtain ⟨h9, n1, n2, h5, X0, Xn, Xs, h6⟩ := id hW
        have hX := Xle Xn Xs
        have loop : ∀ (d k : Nat) (m7 : Nat → Int32), n - k < d → k ≤ n → (∀ s, s < k → ∀ i, X s ≤ i → i < X (s + 1) → ∀ t, t < 32 → bt (m7 s) t = short (fc true g i) wn true t) → J0_gaps 2 l D ad kd [.int (nI a), .int (nI wn)] σ sz (fun r u => r = nI (sMark true g wn) ∧ R0 c q u) (sf u 7 m7) 31 [some (.ref (ad 0)), some (.int (nI a)), some (.int (nI wn)), some (.int (nI k))] [] := by
          intro d
          induction d with
          | zero => intro k m7 z; omega
          | succ d ih =>
            intro k m7 hd hk hm
            refine g_il3 dX0_gaps_31 ?_
            refine g_al0 dX0_gaps_32 ?_
            refine g0_f50 dX0_gaps_33 ?_
            refine g_top (h9) ?_
            refine g_icmp_ge_n (tgt := 68) dX0_gaps_36 (by decide) (by omega) (by omega) (fun c36 => ?_) (fun c36 => ?_)
            · have e : k = n := by omega
              subst e
              refine g_al0 dX0_gaps_68 ?_
              refine g_il2 dX0_gaps_69 ?_
              refine g_iconst (v := nI 1) dX0_gaps_70 rfl ?_
              refine g_top (show nI 1 = bI true from rfl) ?_
              refine k0_65 dX0_gaps_71 (m0_markShortRows (σ := sf u 7 m7) (n := k) (X := X) (g := g) (hW.to rfl rfl rfl) gi (by omega)) (by decide) (Nat.le_of_ble_eq_true rfl) ?_
              rintro u2 ⟨m8, hu, hm8⟩
              rw [hu, sf_sf]
              clear hu
              refine g_al0 dX0_gaps_74 ?_
              refine k0_69 dX0_gaps_75 (m0_markedArea (σ := sf u 7 m8) (n := k) (X := X) (g := g) (M := mrk true g wn) (hW.to rfl rfl rfl) (fun s hs i i1 i2 t ht => ?_)) (by decide) (Nat.le_of_ble_eq_true rfl) ?_
              · show bt (m8 s) t = _
                rw [hm8 s hs i i1 i2 t ht]
                show (bt (m7 s) t || _) = _
                rw [hm s hs i i1 i2 t ht]
                unfold mrk
                congr 1
                rcases Nat.lt_or_ge t 16 with z | z
                · rw [decide_eq_true z, Bool.true_and]
                · rw [short_no (f := fun x => fc true g x t) (fc_j gj z), Bool.and_false]
              · rintro r u3 ⟨hu, rfl⟩
                rw [hu]
                clear hu
                exact g_iret dX0_gaps_78 (⟨rfl, hR.to rfl rfl rfl rfl⟩)
            · refine g_al0 dX0_gaps_39 ?_
              refine g0_f29 dX0_gaps_40 ?_
              refine g_il3 dX0_gaps_43 ?_
              refine g_al0 dX0_gaps_44 ?_
              refine g_al0 dX0_gaps_45 ?_
              refine g0_f26 dX0_gaps_46 ?_
              refine g_il3 dX0_gaps_49 ?_
              refine g0_ld6 dX0_gaps_50 (by omega) ?_
              refine g_iconst (v := -1) dX0_gaps_51 rfl ?_
              refine g_ixor dX0_gaps_52 ?_
              refine g_ldc q139 dX0_gaps_53 ?_
              refine g_iand dX0_gaps_55 ?_
              refine g_il2 dX0_gaps_56 ?_
              refine g_iconst (v := nI 1) dX0_gaps_57 rfl ?_
              refine g_top (show nI 1 = bI true from rfl) ?_
              refine k0_61 dX0_gaps_58 (m0_shortRuns (f := fc true g (X k)) (w := wn) (by omega) true (fun j hj => ?_) (fun j hj => fc_j gj hj)) (by decide) (Nat.le_of_ble_eq_true rfl) ?_
              · exact gap_bits (hX (k + 1) (by omega)) (Xs k c36) (h6 k c36 (X k) (Nat.le_refl _) (Xs k c36)) gj hj
              · rintro r u2 ⟨hu, hr⟩
                rw [hu]
                clear hu
                refine g0_st7 dX0_gaps_61 (by omega) ?_
                refine g_ws (congrArg (w0 ad kd) (sf_sf _ _ _ _)) ?_
                refine g_ic3_n dX0_gaps_62 ?_
                refine g_goto (tgt := 31) dX0_gaps_65 (by decide) ?_
                refine ih (k + 1) _ (by omega) (by omega) (fun s hs i i1 i2 t ht => ?_)
                show bt (upd m7 k r s) t = _
                by_cases z : s = k
                · subst z
                  rw [pk_us, hr t ht, fc_col gj hW c36 i1 i2]
                · rw [pk_un z]
                  exact hm s (by omega) i i1 i2 t ht
        refine g_iconst (v := nI 0) dX0_gaps_29 rfl ?_
        refine g_is3 dX0_gaps_30 ?_
        have h0 := loop 17 0 (u 7) (by omega) (by omega) (fun s hs => absurd hs (Nat.not_lt_zero s))
        rw [sf_self] at h0
        exact h0
      · exact bad (by unfold thV; rw [decide_eq_true (Int32.not_le.mp c16), Bool.not_true, Bool.and_false, Bool.and_false])
end MRK0
end
section
set_option maxRecDepth 100000
/-! DrcScan: isWithin, widen, enclosure -/
def vdl (g : Nat → Nat → Bool) (i j : Nat) : Bool := decide (j < 16) && (g i j || (pv (g i) j || g i (j + 1)))
def dil (g : Nat → Nat → Bool) (i j : Nat) : Bool := vdl g i j || (pvx (vdl g) i j || (decide (i < 15) && vdl g (i + 1) j))
def itd (g : Nat → Nat → Bool) : Nat → Nat → Nat → Bool
  | 0 => g
  | m + 1 => dil (itd g m)
theorem dil_j (g : Nat → Nat → Bool) {i j : Nat} (hj : 16 ≤ j) : dil g i j = false := by
  have h : ∀ i, vdl g i j = false := fun i => by
    unfold vdl
    rw [decide_eq_false (by omega)]
    rfl
  unfold dil
  rw [h, h, Bool.and_false, Bool.or_false, Bool.false_or]
  cases i with
  | zero => rfl
  | succ i => exact h i
theorem itd_j {g : Nat → Nat → Bool} (gj : ∀ i j, 16 ≤ j → g i j = false) : ∀ m i j, 16 ≤ j → itd g m i j = false
  | 0, i, j, h => gj i j h
  | _ + 1, _, _, h => dil_j _ h
def subB (A g : Nat → Nat → Bool) : Bool := !anyB (fun i => anyB (fun j => g i j && !A i j) 32) 16
def encR (c : Nat → Nat) (q : Nat → Nat → Nat) (la lb : Int32) : Int32 := if (lay la && lay lb) = true then nI (rr (fun m => subB (has c q la.toNatClampNeg) (itd (has c q lb.toNatClampNeg) m)) 9 0) - 1 else -2
theorem encR_ok {c : Nat → Nat} {q : Nat → Nat → Nat} {a b : Nat} (ha : a < 3) (hb : b < 3) : encR c q (nI a) (nI b) = nI (rr (fun m => subB (has c q a) (itd (has c q b) m)) 9 0) - 1 := by
  unfold encR
  rw [lay_nI ha, lay_nI hb, nI_clamp (by omega), nI_clamp (by omega)]
  rfl
theorem enc_cmp : ∀ k, k < 10 → (nI 8 ≤ nI k - 1 ↔ 9 ≤ k) := by decide +kernel
theorem enc_inc : ∀ k, k < 10 → (nI k - 1) + Int32.ofInt 1 = nI (k + 1) - 1 := by decide +kernel
theorem vdl_bits {g : Nat → Nat → Bool} {i : Nat} {x : Int32} (h : ∀ j, j < 32 → bt x j = g i j) (gj : ∀ i j, 16 ≤ j → g i j = false) {j : Nat} (hj : j < 32) : bt (x ||| (((x <<< (nI 1 &&& 31)) ||| (x >>> (nI 1 &&& 31))) &&& 65535)) j = vdl g i j := by
  rw [b_or, b_and, b_or, b_sh1 x hj h, b_65535, h j hj, b_sshr 1 (by omega) x hj]
  unfold vdl
  rcases Nat.lt_or_ge j 16 with z | z
  · rw [decide_eq_true z, if_pos (by omega), h (1 + j) (by omega), Bool.and_true, Bool.true_and, Nat.add_comm 1 j]
  · rw [decide_eq_false (by omega), Bool.and_false, gj i j z]
    rfl
section ENC0
variable {l : Launch} {D : va_G} {ad : Nat → Nat} {kd : Nat → ClassId} {σ : gS} {c : Nat → Nat} {q : Nat → Nat → Nat} {g : Nat → Nat → Bool}
theorem m0_widen (h : ∀ i, i < 16 → ∀ j, j < 32 → bt (σ 8 i) j = g i j) (gj : ∀ i j, 16 ≤ j → g i j = false) : C0_widen 0 l D ad kd [] σ (fun u => ∃ m8 : Nat → Int32, u = sf σ 8 m8 ∧ ∀ i, i < 16 → ∀ j, j < 32 → bt (m8 i) j = dil g i j) := by
  refine ConV.of (lv := [some (.ref (ad 0)), none, none, none]) (by decide) rfl (Nat.le_of_ble_eq_true rfl) (by simp [Value.category]) (Nat.le_of_ble_eq_true rfl) rfl (fun sz => ?_)
  have loop2 : ∀ (d i : Nat) (m8 : Nat → Int32) (v : Int32) (w3 : Option Value), 16 - i < d → i ≤ 16 → (∀ z, z < 16 → ∀ j, j < 32 → bt (m8 z) j = if z < i then dil g z j else vdl g z j) → (∀ j, j < 32 → bt v j = pvx (vdl g) i j) → J0_widen 0 l D ad kd [] σ sz (fun u => ∃ m8 : Nat → Int32, u = sf σ 8 m8 ∧ ∀ i, i < 16 → ∀ j, j < 32 → bt (m8 i) j = dil g i j) (sf σ 8 m8) 47 [some (.ref (ad 0)), some (.int v), some (.int (nI i)), w3] [] := by
    intro d
    induction d with
    | zero => intro i m8 v w3 z; omega
    | succ d ih =>
      intro i m8 v w3 hd hi hm hv
      refine g_il2 dX0_widen_47 ?_
      refine g_bipush (v := nI 16) dX0_widen_48 rfl ?_
      refine g_icmp_ge_n (tgt := 101) dX0_widen_50 (by decide) (by omega) (by omega) (fun c50 => ?_) (fun c50 => ?_)
      · exact g_vret dX0_widen_101 (⟨m8, rfl, fun z hz j hj => by rw [hm z hz j hj, if_pos (by omega)]⟩)
      · have nxt : ∀ m9 : Nat → Int32, (∀ z, z < 16 → ∀ j, j < 32 → bt (m9 z) j = if z < i + 1 then dil g z j else vdl g z j) → J0_widen 0 l D ad kd [] σ sz (fun u => ∃ m8 : Nat → Int32, u = sf σ 8 m8 ∧ ∀ i, i < 16 → ∀ j, j < 32 → bt (m8 i) j = dil g i j) (sf σ 8 m9) 93 [some (.ref (ad 0)), some (.int v), some (.int (nI i)), some (.int (m8 i))] [] := by
          intro m9 hm9
          refine g_il3 dX0_widen_93 ?_
          refine g_is1 dX0_widen_94 ?_
          refine g_ic2_n dX0_widen_95 ?_
          refine g_goto (tgt := 47) dX0_widen_98 (by decide) ?_
          refine ih (i + 1) m9 (m8 i) _ (by omega) (by omega) hm9 (fun j hj => ?_)
          rw [hm i c50 j hj, if_neg (by omega)]
          rfl
        have own : ∀ j, j < 32 → bt (m8 i) j = vdl g i j := fun j hj => by rw [hm i c50 j hj, if_neg (by omega)]
        have oth : ∀ z, z < 16 → z ≠ i → ∀ j, j < 32 → bt (m8 z) j = if z < i + 1 then dil g z j else vdl g z j := by
          intro z hz y j hj
          rw [hm z hz j hj]
          by_cases y1 : z < i
          · rw [if_pos y1, if_pos (by omega)]
          · rw [if_neg y1, if_neg (by omega)]
        refine g_al0 dX0_widen_53 ?_
        refine g0_f32 dX0_widen_54 ?_
        refine g_il2 dX0_widen_57 ?_
        refine g0_ld8 dX0_widen_58 (by omega) ?_
        refine g_is3 dX0_widen_59 ?_
        refine g_al0 dX0_widen_60 ?_
        refine g0_f32 dX0_widen_61 ?_
        refine g_il2 dX0_widen_64 ?_
        refine g_dup2 dX0_widen_65 rfl rfl ?_
        refine g0_ld8 dX0_widen_66 (by omega) ?_
        refine g_il1 dX0_widen_67 ?_
        refine g_ior dX0_widen_68 ?_
        refine g0_st8 dX0_widen_69 (by omega) ?_
        refine g_ws (congrArg (w0 ad kd) (sf_sf _ _ _ _)) ?_
        refine g_il2 dX0_widen_70 ?_
        refine g_bipush (v := nI 15) dX0_widen_71 rfl ?_
        refine g_icmp_ge_n (tgt := 93) dX0_widen_73 (by decide) (by omega) (by omega) (fun c73 => ?_) (fun c73 => ?_)
        · refine nxt _ (fun z hz j hj => ?_)
          show bt (upd m8 i (m8 i ||| v) z) j = _
          by_cases y : z = i
          · rw [y, pk_us, if_pos (by omega), b_or, own j hj, hv j hj]
            unfold dil
            rw [decide_eq_false (by omega), Bool.false_and, Bool.or_false]
          · rw [pk_un y]
            exact oth z hz y j hj
        · refine g_al0 dX0_widen_76 ?_
          refine g0_f32 dX0_widen_77 ?_
          refine g_il2 dX0_widen_80 ?_
          refine g_dup2 dX0_widen_81 rfl rfl ?_
          refine g0_ld8 dX0_widen_82 (by omega) ?_
          refine g_top (show upd m8 i (m8 i ||| v) i = m8 i ||| v from pk_us) ?_
          refine g_al0 dX0_widen_83 ?_
          refine g0_f32 dX0_widen_84 ?_
          refine g_il2 dX0_widen_87 ?_
          refine g_iconst (v := nI 1) dX0_widen_88 rfl ?_
          refine g_iadd_n dX0_widen_89 ?_
          refine g0_ld8 dX0_widen_90 (by omega) ?_
          refine g_top (show upd m8 i (m8 i ||| v) (i + 1) = m8 (i + 1) from pk_un (by omega)) ?_
          refine g_ior dX0_widen_91 ?_
          refine g0_st8 dX0_widen_92 (by omega) ?_
          refine g_ws (congrArg (w0 ad kd) (sf_sf _ _ _ _)) ?_
          refine nxt _ (fun z hz j hj => ?_)
          show bt (upd (upd m8 i (m8 i ||| v)) i (m8 i ||| v ||| m8 (i + 1)) z) j = _
          by_cases y : z = i
          · rw [y, pk_us, if_pos (by omega), b_or, b_or, own j hj, hv j hj, hm (i + 1) (by omega) j hj, if_neg (by omega)]
            unfold dil
            rw [decide_eq_true c73, Bool.true_and, Bool.or_assoc]
          · rw [pk_un y, pk_un y]
            exact oth z hz y j hj
  have loop1 : ∀ (d i : Nat) (m8 : Nat → Int32), 16 - i < d → i ≤ 16 → (∀ z, z < 16 → ∀ j, j < 32 → bt (m8 z) j = if z < i then vdl g z j else g z j) → J0_widen 0 l D ad kd [] σ sz (fun u => ∃ m8 : Nat → Int32, u = sf σ 8 m8 ∧ ∀ i, i < 16 → ∀ j, j < 32 → bt (m8 i) j = dil g i j) (sf σ 8 m8) 2 [some (.ref (ad 0)), some (.int (nI i)), none, none] [] := by
    intro d
    induction d with
    | zero => intro i m8 z; omega
    | succ d ih =>
      intro i m8 hd hi hm
      refine g_il1 dX0_widen_2 ?_
      refine g_bipush (v := nI 16) dX0_widen_3 rfl ?_
      refine g_icmp_ge_n (tgt := 43) dX0_widen_5 (by decide) (by omega) (by omega) (fun c5 => ?_) (fun c5 => ?_)
      · refine g_iconst (v := nI 0) dX0_widen_43 rfl ?_
        refine g_top (nI_0) ?_
        refine g_is1 dX0_widen_44 ?_
        refine g_iconst (v := nI 0) dX0_widen_45 rfl ?_
        refine g_is2 dX0_widen_46 ?_
        exact loop2 17 0 m8 0 none (by omega) (by omega) (fun z hz j hj => by rw [hm z hz j hj, if_pos (by omega), if_neg (by omega)]) (fun j _ => b_0 j)
      · refine g_al0 dX0_widen_8 ?_
        refine g0_f32 dX0_widen_9 ?_
        refine g_il1 dX0_widen_12 ?_
        refine g_dup2 dX0_widen_13 rfl rfl ?_
        refine g0_ld8 dX0_widen_14 (by omega) ?_
        refine g_al0 dX0_widen_15 ?_
        refine g0_f32 dX0_widen_16 ?_
        refine g_il1 dX0_widen_19 ?_
        refine g0_ld8 dX0_widen_20 (by omega) ?_
        refine g_iconst (v := nI 1) dX0_widen_21 rfl ?_
        refine g_ishl dX0_widen_22 ?_
        refine g_al0 dX0_widen_23 ?_
        refine g0_f32 dX0_widen_24 ?_
        refine g_il1 dX0_widen_27 ?_
        refine g0_ld8 dX0_widen_28 (by omega) ?_
        refine g_iconst (v := nI 1) dX0_widen_29 rfl ?_
        refine g_ishr dX0_widen_30 ?_
        refine g_ior dX0_widen_31 ?_
        refine g_ldc q139 dX0_widen_32 ?_
        refine g_iand dX0_widen_34 ?_
        refine g_ior dX0_widen_35 ?_
        refine g0_st8 dX0_widen_36 (by omega) ?_
        refine g_ws (congrArg (w0 ad kd) (sf_sf _ _ _ _)) ?_
        refine g_ic1_n dX0_widen_37 ?_
        refine g_goto (tgt := 2) dX0_widen_40 (by decide) ?_
        refine ih (i + 1) _ (by omega) (by omega) (fun z hz j hj => ?_)
        show bt (upd m8 i (m8 i ||| (((m8 i <<< (nI 1 &&& 31)) ||| (m8 i >>> (nI 1 &&& 31))) &&& 65535)) z) j = _
        by_cases y : z = i
        · rw [y, pk_us, if_pos (by omega)]
          exact vdl_bits (fun j hj => by rw [hm i c5 j hj, if_neg (by omega)]) gj hj
        · rw [pk_un y, hm z hz j hj]
          by_cases y1 : z < i
          · rw [if_pos y1, if_pos (by omega)]
          · rw [if_neg y1, if_neg (by omega)]
  refine g_iconst (v := nI 0) dX0_widen_0 rfl ?_
  refine g_is1 dX0_widen_1 ?_
  have h0 := loop1 17 0 (σ 8) (by omega) (by omega) (fun z hz j hj => by rw [if_neg (by omega)]; exact h z hz j hj)
  rw [sf_self] at h0
  exact h0
theorem m0_isWithin (hR : R0 c q σ) {a : Nat} (ha : a < 3) (h : ∀ i, i < 16 → ∀ j, j < 32 → bt (σ 8 i) j = g i j) : C0_isWithin 1 l D ad kd [.int (nI a)] σ (fun r u => u = σ ∧ r = bI (subB (has c q a) g)) := by
  refine Con.of (lv := [some (.ref (ad 0)), some (.int (nI a)), none, none]) (by decide) rfl (Nat.le_of_ble_eq_true rfl) (by simp [Value.category]) (Nat.le_of_ble_eq_true rfl) rfl (fun sz => ?_)
  have loop : ∀ (d i : Nat) (w3 : Option Value), 16 - i < d → i ≤ 16 → (∀ z, z < i → anyB (fun j => g z j && !has c q a z j) 32 = false) → J0_isWithin 1 l D ad kd [.int (nI a)] σ sz (fun r u => u = σ ∧ r = bI (subB (has c q a) g)) σ 2 [some (.ref (ad 0)), some (.int (nI a)), some (.int (nI i)), w3] [] := by
    intro d
    induction d with
    | zero => intro i w3 z; omega
    | succ d ih =>
      intro i w3 hd hi hz
      refine g_il2 dX0_isWithin_2 ?_
      refine g_bipush (v := nI 16) dX0_isWithin_3 rfl ?_
      refine g_icmp_ge_n (tgt := 36) dX0_isWithin_5 (by decide) (by omega) (by omega) (fun c5 => ?_) (fun c5 => ?_)
      · refine g_iconst (v := nI 1) dX0_isWithin_36 rfl ?_
        exact g_zret dX0_isWithin_37 rfl (⟨rfl, by unfold subB; rw [anyB_no (fun k hk => hz k (by omega))]; rfl⟩)
      · refine g_al0 dX0_isWithin_8 ?_
        refine g_il1 dX0_isWithin_9 ?_
        refine g_il2 dX0_isWithin_10 ?_
        refine k0_42 dX0_isWithin_11 (m0_rowsAt hR ha (by omega)) (by decide) (Nat.le_of_ble_eq_true rfl) ?_
        rintro r u ⟨hu, hr⟩
        rw [hu]
        clear hu
        have hb : ∀ j, j < 32 → bt (σ 8 i &&& (r ^^^ (-1))) j = (g i j && !has c q a i j) := fun j hj => by rw [b_and, b_not r hj, h i c5 j hj, hr j hj]
        refine g_is3 dX0_isWithin_14 ?_
        refine g_al0 dX0_isWithin_15 ?_
        refine g0_f32 dX0_isWithin_16 ?_
        refine g_il2 dX0_isWithin_19 ?_
        refine g0_ld8 dX0_isWithin_20 (by omega) ?_
        refine g_il3 dX0_isWithin_21 ?_
        refine g_iconst (v := -1) dX0_isWithin_22 rfl ?_
        refine g_ixor dX0_isWithin_23 ?_
        refine g_iand dX0_isWithin_24 ?_
        refine g_if_eq (tgt := 30) dX0_isWithin_25 (by decide) (fun c25 => ?_) (fun c25 => ?_)
        · refine g_ic2_n dX0_isWithin_30 ?_
          refine g_goto (tgt := 2) dX0_isWithin_33 (by decide) ?_
          refine ih (i + 1) _ (by omega) (by omega) (fun z z1 => ?_)
          rcases Nat.lt_or_ge z i with y | y
          · exact hz z y
          · rw [show z = i by omega]
            exact anyB_no fun j hj => by rw [← hb j hj]; exact b_zero.mp c25 j hj
        · have hx : anyB (fun j => g i j && !has c q a i j) 32 = true := by
            cases hy : anyB (fun j => g i j && !has c q a i j) 32
            · refine absurd (b_zero.mpr fun j hj => ?_) c25
              rw [hb j hj]
              cases hq : (g i j && !has c q a i j)
              · rfl
              · have := (anyB_iff (f := fun j => g i j && !has c q a i j)).mpr ⟨j, hj, hq⟩
                rw [hy] at this
                cases this
            · rfl
          refine g_iconst (v := nI 0) dX0_isWithin_28 rfl ?_
          exact g_zret dX0_isWithin_29 rfl (⟨rfl, by unfold subB; rw [anyB_iff.mpr ⟨i, c5, hx⟩]; rfl⟩)
  refine g_iconst (v := nI 0) dX0_isWithin_0 rfl ?_
  refine g_is2 dX0_isWithin_1 ?_
  exact loop 17 0 none (by omega) (by omega) (fun z hz => absurd hz (Nat.not_lt_zero z))
theorem m0_enclosure (hR : R0 c q σ) (la lb : Int32) : C0_enclosure 2 l D ad kd [.int la, .int lb] σ (fun r u => r = encR c q la lb ∧ R0 c q u) := by
  refine Con.of (lv := [some (.ref (ad 0)), some (.int la), some (.int lb), none]) (by decide) rfl (Nat.le_of_ble_eq_true rfl) (by simp [Value.category]) (Nat.le_of_ble_eq_true rfl) rfl (fun sz => ?_)
  have bad : (lay la && lay lb) = false → J0_enclosure 2 l D ad kd [.int la, .int lb] σ sz (fun r u => r = encR c q la lb ∧ R0 c q u) σ 16 [some (.ref (ad 0)), some (.int la), some (.int lb), none] [] := by
    intro h
    refine g_bipush (v := -2) dX0_enclosure_16 rfl ?_
    exact g_iret dX0_enclosure_18 (⟨(if_neg (by rw [h]; decide)).symm, hR⟩)
  refine g_al0 dX0_enclosure_0 ?_
  refine g_il1 dX0_enclosure_1 ?_
  refine k0_39 dX0_enclosure_2 (m0_isLayer la) (by decide) (Nat.le_of_ble_eq_true rfl) ?_
  rintro r u ⟨hu, rfl⟩
  rw [hu]
  clear hu
  refine g_if_eq_b (tgt := 16) dX0_enclosure_5 (by decide) (fun c5 => ?_) (fun c5 => ?_)
  · exact bad (by rw [c5]; rfl)
  · refine g_al0 dX0_enclosure_8 ?_
    refine g_il2 dX0_enclosure_9 ?_
    refine k0_39 dX0_enclosure_10 (m0_isLayer lb) (by decide) (Nat.le_of_ble_eq_true rfl) ?_
    rintro r u ⟨hu, rfl⟩
    rw [hu]
    clear hu
    refine g_if_ne_b (tgt := 19) dX0_enclosure_13 (by decide) (fun c13 => ?_) (fun c13 => ?_)
    · obtain ⟨a, ha, rfl⟩ := lay_n c5
      obtain ⟨b, hb, rfl⟩ := lay_n c13
      rw [encR_ok ha hb]
      have gj : ∀ i j, 16 ≤ j → has c q b i j = false := fun i j hj => has_j hR.1 hb i hj
      have loop2 : ∀ (d k : Nat) (m8 : Nat → Int32), 9 - k < d → k ≤ 9 → (∀ t, t < k → subB (has c q a) (itd (has c q b) t) = true) → (∀ i, i < 16 → ∀ j, j < 32 → bt (m8 i) j = itd (has c q b) k i j) → J0_enclosure 2 l D ad kd [.int (nI a), .int (nI b)] σ sz (fun r u => r = nI (rr (fun m => subB (has c q a) (itd (has c q b) m)) 9 0) - 1 ∧ R0 c q u) (sf σ 8 m8) 47 [some (.ref (ad 0)), some (.int (nI a)), some (.int (nI b)), some (.int (nI k - 1))] [] := by
        intro d
        induction d with
        | zero => intro k m8 z; omega
        | succ d ih =>
          intro k m8 hd hk ht hm
          have fin : (k = 9 ∨ subB (has c q a) (itd (has c q b) k) = false) → J0_enclosure 2 l D ad kd [.int (nI a), .int (nI b)] σ sz (fun r u => r = nI (rr (fun m => subB (has c q a) (itd (has c q b) m)) 9 0) - 1 ∧ R0 c q u) (sf σ 8 m8) 71 [some (.ref (ad 0)), some (.int (nI a)), some (.int (nI b)), some (.int (nI k - 1))] [] := by
            intro hz
            refine g_il3 dX0_enclosure_71 ?_
            exact g_iret dX0_enclosure_72 (⟨by rw [rr_of (f := fun m => subB (has c q a) (itd (has c q b) m)) k 9 0 hk (fun t h1 => by rw [Nat.zero_add]; exact ht t h1) (by rw [Nat.zero_add]; exact hz)], hR.to rfl rfl rfl rfl⟩)
          refine g_il3 dX0_enclosure_47 ?_
          refine g_bipush (v := nI 8) dX0_enclosure_48 rfl ?_
          refine g_icmp_ge (tgt := 71) dX0_enclosure_50 (by decide) (fun c50 => ?_) (fun c50 => ?_)
          · have := (enc_cmp k (by omega)).mp c50
            exact fin (Or.inl (by omega))
          · have hk9 : k < 9 := by
              rcases Nat.lt_or_ge k 9 with z | z
              · exact z
              · exact absurd ((enc_cmp k (by omega)).mpr z) c50
            refine g_al0 dX0_enclosure_53 ?_
            refine g_il1 dX0_enclosure_54 ?_
            refine k0_74 dX0_enclosure_55 (m0_isWithin (σ := sf σ 8 m8) (hR.to rfl rfl rfl rfl) ha hm) (by decide) (Nat.le_of_ble_eq_true rfl) ?_
            rintro r u ⟨hu, rfl⟩
            rw [hu]
            clear hu
            refine g_if_eq_b (tgt := 71) dX0_enclosure_58 (by decide) (fun c58 => ?_) (fun c58 => ?_)
            · exact fin (Or.inr c58)
            · refine g_ic3 dX0_enclosure_61 (enc_inc k (by omega)) ?_
              refine g_al0 dX0_enclosure_64 ?_
              refine k0_77 dX0_enclosure_65 (m0_widen (σ := sf σ 8 m8) hm (itd_j gj k)) (by decide) (Nat.le_of_ble_eq_true rfl) ?_
              rintro u ⟨m9, hu, hm9⟩
              rw [hu, sf_sf]
              clear hu
              refine g_goto (tgt := 47) dX0_enclosure_68 (by decide) ?_
              refine ih (k + 1) m9 (by omega) (by omega) (fun t h1 => ?_) hm9
              rcases Nat.lt_or_ge t k with z | z
              · exact ht t z
              · rw [show t = k by omega]
                exact c58
      have loop1 : ∀ (d i : Nat) (m8 : Nat → Int32), 16 - i < d → i ≤ 16 → (∀ z, z < i → ∀ j, j < 32 → bt (m8 z) j = has c q b z j) → J0_enclosure 2 l D ad kd [.int (nI a), .int (nI b)] σ sz (fun r u => r = nI (rr (fun m => subB (has c q a) (itd (has c q b) m)) 9 0) - 1 ∧ R0 c q u) (sf σ 8 m8) 21 [some (.ref (ad 0)), some (.int (nI a)), some (.int (nI b)), some (.int (nI i))] [] := by
        intro d
        induction d with
        | zero => intro i m8 z; omega
        | succ d ih =>
          intro i m8 hd hi hm
          refine g_il3 dX0_enclosure_21 ?_
          refine g_bipush (v := nI 16) dX0_enclosure_22 rfl ?_
          refine g_icmp_ge_n (tgt := 45) dX0_enclosure_24 (by decide) (by omega) (by omega) (fun c24 => ?_) (fun c24 => ?_)
          · refine g_iconst (v := -1) dX0_enclosure_45 rfl ?_
            refine g_top (show (-1 : Int32) = nI 0 - 1 by decide) ?_
            refine g_is3 dX0_enclosure_46 ?_
            exact loop2 10 0 m8 (by omega) (by omega) (fun t ht => absurd ht (Nat.not_lt_zero t)) (fun z hz j hj => hm z (by omega) j hj)
          · refine g_al0 dX0_enclosure_27 ?_
            refine g0_f32 dX0_enclosure_28 ?_
            refine g_il3 dX0_enclosure_31 ?_
            refine g_al0 dX0_enclosure_32 ?_
            refine g_il2 dX0_enclosure_33 ?_
            refine g_il3 dX0_enclosure_34 ?_
            refine k0_42 dX0_enclosure_35 (m0_rowsAt (σ := sf σ 8 m8) (hR.to rfl rfl rfl rfl) hb (by omega)) (by decide) (Nat.le_of_ble_eq_true rfl) ?_
            rintro r u ⟨hu, hr⟩
            rw [hu]
            clear hu
            refine g0_st8 dX0_enclosure_38 (by omega) ?_
            refine g_ws (congrArg (w0 ad kd) (sf_sf _ _ _ _)) ?_
            refine g_ic3_n dX0_enclosure_39 ?_
            refine g_goto (tgt := 21) dX0_enclosure_42 (by decide) ?_
            refine ih (i + 1) _ (by omega) (by omega) (fun z hz j hj => ?_)
            show bt (upd m8 i r z) j = _
            by_cases y : z = i
            · rw [y, pk_us]
              exact hr j hj
            · rw [pk_un y]
              exact hm z (by omega) j hj
      refine g_iconst (v := nI 0) dX0_enclosure_19 rfl ?_
      refine g_is3 dX0_enclosure_20 ?_
      have h0 := loop1 17 0 (σ 8) (by omega) (by omega) (fun z hz => absurd hz (Nat.not_lt_zero z))
      rw [sf_self] at h0
      exact h0
    · exact bad (by rw [c13, Bool.and_false])
end ENC0
end
section
set_option maxRecDepth 100000
/-! DrcScanModel: isLayer, has, add, drop, covers, in, combine -/
theorem R1_add {c : Nat → Nat} {q : Nat → Nat → Nat} {σ σ' : gS} (h : R1 c q σ) {a x y : Nat} (ha : a < 3) (hc : c a < 10) (x1 : x / 32 < x % 32) (x2 : x % 32 ≤ 16) (y1 : y / 32 < y % 32) (y2 : y % 32 ≤ 16) (s1 : σ' 1 = upd (σ 1) a (nI (c a + 1))) (s2 : σ' 2 = upd (σ 2) (10 * a + c a) (nI (x / 32))) (s3 : σ' 3 = upd (σ 3) (10 * a + c a) (nI (x % 32))) (s4 : σ' 4 = upd (σ 4) (10 * a + c a) (nI (y / 32))) (s5 : σ' 5 = upd (σ 5) (10 * a + c a) (nI (y % 32))) : R1 (addC1 c a) (addQ1 q (10 * a + c a) x y) σ' := by
  refine ⟨okQ_add h.1 ha hc x1 x2 y1 y2, fun l hl => ?_⟩
  obtain ⟨h1, h2⟩ := h.2 l hl
  have hl10 := (h.1 l hl).1
  rw [s1, s2, s3, s4, s5]
  unfold addC1
  by_cases e : l = a
  · subst e
    rw [if_pos rfl]
    refine ⟨pk_us, fun k hk => ?_⟩
    unfold addQ1
    by_cases e2 : k = c l
    · subst e2
      simp only [if_true]
      exact ⟨pk_us, pk_us, pk_us, pk_us⟩
    · simp only [if_neg (show ¬ 10 * l + k = 10 * l + c l by omega)]
      rw [pk_un (by omega), pk_un (by omega), pk_un (by omega), pk_un (by omega)]
      exact h2 k (by omega)
  · rw [if_neg e]
    refine ⟨by rw [pk_un e]; exact h1, fun k hk => ?_⟩
    unfold addQ1
    simp only [if_neg (show ¬ 10 * l + k = 10 * a + c a by omega)]
    rw [pk_un (by omega), pk_un (by omega), pk_un (by omega), pk_un (by omega)]
    exact h2 k hk
theorem R1_drp {c : Nat → Nat} {q : Nat → Nat → Nat} {σ σ' : gS} (h : R1 c q σ) {a : Nat} (ha : a < 3) (hc : ¬ c a = 0) (s1 : σ' 1 = upd (σ 1) a (nI (c a - 1))) (s2 : σ' 2 = shf (σ 2) a 9) (s3 : σ' 3 = shf (σ 3) a 9) (s4 : σ' 4 = shf (σ 4) a 9) (s5 : σ' 5 = shf (σ 5) a 9) : R1 (drpC1 c a) (drpQ1 q a) σ' := by
  refine ⟨okQ_drp h.1 ha hc, fun l hl => ?_⟩
  obtain ⟨h1, h2⟩ := h.2 l hl
  have hl10 := (h.1 l hl).1
  have ha10 := (h.1 a ha).1
  rw [s1, s2, s3, s4, s5]
  unfold drpC1
  by_cases e : l = a
  · subst e
    rw [if_pos rfl]
    refine ⟨pk_us, fun k hk => ?_⟩
    unfold drpQ1 shf
    simp only [if_pos (show 10 * l ≤ 10 * l + k ∧ 10 * l + k < 10 * l + 9 by omega)]
    exact h2 (k + 1) (by omega)
  · rw [if_neg e]
    refine ⟨by rw [pk_un e]; exact h1, fun k hk => ?_⟩
    unfold drpQ1 shf
    simp only [if_neg (show ¬ (10 * a ≤ 10 * l + k ∧ 10 * l + k < 10 * a + 9) by omega)]
    exact h2 k hk
/-- the set that is looked at holds the grid -/
def St1 (g : Nat → Nat → Bool) (σ : gS) : Prop := ∀ x, x < 256 → σ 6 x = bI (g (x % 16) (x / 16))
def inz (g : Nat → Nat → Bool) (x y : Int32) : Bool := rng x && (rng y && g x.toNatClampNeg y.toNatClampNeg)
theorem dv {a d : Nat} (ha : a < 2 ^ 31) (h0 : 0 < d) (hd : d < 2 ^ 31) : nI a / nI d = nI (a / d) := pk_div ha h0 hd
theorem rm {a d : Nat} (ha : a < 2 ^ 31) (h0 : 0 < d) (hd : d < 2 ^ 31) : nI a - nI a / nI d * nI d = nI (a % d) := pk_rem ha h0 hd
section LEAF1
variable {l : Launch} {D : va_G} {ad : Nat → Nat} {kd : Nat → ClassId} {σ : gS} {c : Nat → Nat} {q : Nat → Nat → Nat} {g : Nat → Nat → Bool}
theorem m1_isLayer (x : Int32) : C1_isLayer 0 l D ad kd [.int x] σ (fun r u => u = σ ∧ r = bI (lay x)) := by
  refine Con.of (lv := [some (.ref (ad 0)), some (.int x)]) (by decide) rfl (Nat.le_of_ble_eq_true rfl) (by simp [Value.category]) (Nat.le_of_ble_eq_true rfl) rfl (fun sz => ?_)
  refine g_il1 dX1_isLayer_0 ?_
  refine g_if_lt (tgt := 13) dX1_isLayer_1 (by decide) (fun c1 => ?_) (fun c1 => ?_)
  · refine g_iconst (v := nI 0) dX1_isLayer_13 rfl ?_
    exact g_zret dX1_isLayer_14 rfl (⟨rfl, by rw [lay_f1 c1]; rfl⟩)
  · refine g_il1 dX1_isLayer_4 ?_
    refine g_iconst (v := nI 2) dX1_isLayer_5 rfl ?_
    refine g_icmp_gt (tgt := 13) dX1_isLayer_6 (by decide) (fun c6 => ?_) (fun c6 => ?_)
    · refine g_iconst (v := nI 0) dX1_isLayer_13 rfl ?_
      exact g_zret dX1_isLayer_14 rfl (⟨rfl, by rw [lay_f2 c6]; rfl⟩)
    · refine g_iconst (v := nI 1) dX1_isLayer_9 rfl ?_
      refine g_goto (tgt := 14) dX1_isLayer_10 (by decide) ?_
      exact g_zret dX1_isLayer_14 rfl (⟨rfl, by rw [lay_t c1 c6]; rfl⟩)
theorem m1_has (hR : R1 c q σ) {a i j : Nat} (ha : a < 3) (hi : i < 2 ^ 31) (hj : j < 2 ^ 31) : C1_has 0 l D ad kd [.int (nI a), .int (nI i), .int (nI j)] σ (fun r u => u = σ ∧ r = bI (has c q a i j)) := by
  refine Con.of (lv := [some (.ref (ad 0)), some (.int (nI a)), some (.int (nI i)), some (.int (nI j)), none]) (by decide) rfl (Nat.le_of_ble_eq_true rfl) (by simp [Value.category]) (Nat.le_of_ble_eq_true rfl) rfl (fun sz => ?_)
  have hc := (hR.1 a ha).1
  have loop : ∀ (f k : Nat), c a - k < f → k ≤ c a → (∀ z, z < k → hasR q (10 * a + z) i j = false) → J1_has 0 l D ad kd [.int (nI a), .int (nI i), .int (nI j)] σ sz (fun r u => u = σ ∧ r = bI (has c q a i j)) σ 6 [some (.ref (ad 0)), some (.int (nI a)), some (.int (nI i)), some (.int (nI j)), some (.int (nI (10 * a + k)))] [] := by
    intro f
    induction f with
    | zero => intro k z; omega
    | succ f ih =>
      intro k hf hk hz
      refine g_il4 dX1_has_6 ?_
      refine g_bipush (v := nI 10) dX1_has_8 rfl ?_
      refine g_il1 dX1_has_10 ?_
      refine g_imul_n dX1_has_11 ?_
      refine g_al0 dX1_has_12 ?_
      refine g1_f7 dX1_has_13 ?_
      refine g_il1 dX1_has_16 ?_
      refine g1_ld1 dX1_has_17 (by omega) ?_
      refine g_top ((hR.2 a ha).1) ?_
      refine g_iadd_n dX1_has_18 ?_
      refine g_icmp_ge_n (tgt := 74) dX1_has_19 (by decide) (by omega) (by omega) (fun c19 => ?_) (fun c19 => ?_)
      · refine g_iconst (v := nI 0) dX1_has_74 rfl ?_
        exact g_zret dX1_has_75 rfl (⟨rfl, by unfold has; rw [anyB_no (fun z z1 => hz z (by omega))]; rfl⟩)
      · have hkc : k < c a := by omega
        obtain ⟨e2, e3, e4, e5⟩ := (hR.2 a ha).2 k hkc
        obtain ⟨o1, o2, o3, o4⟩ := (hR.1 a ha).2 k hkc
        have skip : hasR q (10 * a + k) i j = false → J1_has 0 l D ad kd [.int (nI a), .int (nI i), .int (nI j)] σ sz (fun r u => u = σ ∧ r = bI (has c q a i j)) σ 68 [some (.ref (ad 0)), some (.int (nI a)), some (.int (nI i)), some (.int (nI j)), some (.int (nI (10 * a + k)))] [] := by
          intro h0
          refine g_ic4_n dX1_has_68 ?_
          refine g_goto (tgt := 6) dX1_has_71 (by decide) ?_
          refine ih (k + 1) (by omega) (by omega) (fun z z1 => ?_)
          rcases Nat.lt_or_ge z k with y | y
          · exact hz z y
          · rw [show z = k by omega]
            exact h0
        refine g_il2 dX1_has_22 ?_
        refine g_al0 dX1_has_23 ?_
        refine g1_f13 dX1_has_24 ?_
        refine g_il4 dX1_has_27 ?_
        refine g1_ld2 dX1_has_29 (by omega) ?_
        refine g_top (e2) ?_
        refine g_icmp_lt_n (tgt := 68) dX1_has_30 (by decide) (by omega) (by omega) (fun c30 => ?_) (fun c30 => ?_)
        · exact skip (by unfold hasR; rw [decide_eq_false (by omega)]; simp)
        · refine g_il2 dX1_has_33 ?_
          refine g_al0 dX1_has_34 ?_
          refine g1_f16 dX1_has_35 ?_
          refine g_il4 dX1_has_38 ?_
          refine g1_ld3 dX1_has_40 (by omega) ?_
          refine g_top (e3) ?_
          refine g_icmp_ge_n (tgt := 68) dX1_has_41 (by decide) (by omega) (by omega) (fun c41 => ?_) (fun c41 => ?_)
          · exact skip (by unfold hasR; rw [decide_eq_false (show ¬ i < q 1 (10 * a + k) by omega)]; simp)
          · refine g_il3 dX1_has_44 ?_
            refine g_al0 dX1_has_45 ?_
            refine g1_f19 dX1_has_46 ?_
            refine g_il4 dX1_has_49 ?_
            refine g1_ld4 dX1_has_51 (by omega) ?_
            refine g_top (e4) ?_
            refine g_icmp_lt_n (tgt := 68) dX1_has_52 (by decide) (by omega) (by omega) (fun c52 => ?_) (fun c52 => ?_)
            · exact skip (by unfold hasR; rw [decide_eq_false (show ¬ q 2 (10 * a + k) ≤ j by omega)]; simp)
            · refine g_il3 dX1_has_55 ?_
              refine g_al0 dX1_has_56 ?_
              refine g1_f22 dX1_has_57 ?_
              refine g_il4 dX1_has_60 ?_
              refine g1_ld5 dX1_has_62 (by omega) ?_
              refine g_top (e5) ?_
              refine g_icmp_ge_n (tgt := 68) dX1_has_63 (by decide) (by omega) (by omega) (fun c63 => ?_) (fun c63 => ?_)
              · exact skip (by unfold hasR; rw [decide_eq_false (show ¬ j < q 3 (10 * a + k) by omega)]; simp)
              · refine g_iconst (v := nI 1) dX1_has_66 rfl ?_
                have hy : hasR q (10 * a + k) i j = true := by
                  unfold hasR
                  rw [decide_eq_true c30, decide_eq_true c41, decide_eq_true c52, decide_eq_true c63]
                  rfl
                exact g_zret dX1_has_67 rfl (⟨rfl, by unfold has; rw [anyB_iff.mpr ⟨k, hkc, hy⟩]; rfl⟩)
  refine g_bipush (v := nI 10) dX1_has_0 rfl ?_
  refine g_il1 dX1_has_2 ?_
  refine g_imul_n dX1_has_3 ?_
  refine g_is4 dX1_has_4 ?_
  exact loop (c a + 1) 0 (by omega) (by omega) (fun z hz => absurd hz (Nat.not_lt_zero z))
theorem m1_add (hR : R1 c q σ) (la x y : Int32) : C1_add 1 l D ad kd [.int la, .int x, .int y] σ (fun r u => r = addR c la x y ∧ R1 (addC c la x y) (addQ c q la x y) u) := by
  refine Con.of (lv := [some (.ref (ad 0)), some (.int la), some (.int x), some (.int y), none]) (by decide) rfl (Nat.le_of_ble_eq_true rfl) (by simp [Value.category]) (Nat.le_of_ble_eq_true rfl) rfl (fun sz => ?_)
  have bad : addV la x y = false → J1_add 1 l D ad kd [.int la, .int x, .int y] σ sz (fun r u => r = addR c la x y ∧ R1 (addC c la x y) (addQ c q la x y) u) σ 16 [some (.ref (ad 0)), some (.int la), some (.int x), some (.int y), none] [] := by
    intro h
    obtain ⟨b1, b2, b3⟩ := add_bad (c := c) (q := q) h
    refine g_bipush (v := -2) dX1_add_16 rfl ?_
    exact g_iret dX1_add_18 (⟨b1.symm, by rw [b2, b3]; exact hR⟩)
  have bad2 : addV la x y = false → J1_add 1 l D ad kd [.int la, .int x, .int y] σ sz (fun r u => r = addR c la x y ∧ R1 (addC c la x y) (addQ c q la x y) u) σ 59 [some (.ref (ad 0)), some (.int la), some (.int x), some (.int y), none] [] := by
    intro h
    obtain ⟨b1, b2, b3⟩ := add_bad (c := c) (q := q) h
    refine g_bipush (v := -2) dX1_add_59 rfl ?_
    exact g_iret dX1_add_61 (⟨b1.symm, by rw [b2, b3]; exact hR⟩)
  refine g_al0 dX1_add_0 ?_
  refine g_il1 dX1_add_1 ?_
  refine k1_29 dX1_add_2 (m1_isLayer la) (by decide) (Nat.le_of_ble_eq_true rfl) ?_
  rintro r u ⟨hu, rfl⟩
  rw [hu]
  clear hu
  refine g_if_eq_b (tgt := 16) dX1_add_5 (by decide) (fun c5 => ?_) (fun c5 => ?_)
  · exact bad (by unfold addV; rw [c5]; rfl)
  · refine g_il2 dX1_add_8 ?_
    refine g_if_lt (tgt := 16) dX1_add_9 (by decide) (fun c9 => ?_) (fun c9 => ?_)
    · exact bad (by unfold addV; rw [spn_f c9, Bool.false_and, Bool.and_false])
    · refine g_il3 dX1_add_12 ?_
      refine g_if_ge (tgt := 19) dX1_add_13 (by decide) (fun c13 => ?_) (fun c13 => ?_)
      · obtain ⟨a, ha, rfl⟩ := lay_n c5
        obtain ⟨nx, hnx, rfl⟩ := nI_of c9
        obtain ⟨ny, hny, rfl⟩ := nI_of (fun h => absurd (show (0 : Int32) ≤ y from c13) (by rw [Int32.not_le]; exact h))
        have hc := (hR.1 a ha).1
        have hV : addV (nI a) (nI nx) (nI ny) = (spnN nx && spnN ny) := by
          unfold addV
          rw [c5, spn_n hnx, spn_n hny]
          rfl
        refine g_il2 dX1_add_19 ?_
        refine g_bipush (v := nI 32) dX1_add_20 rfl ?_
        refine g_idiv dX1_add_22 (by decide) ?_
        refine g_top (dv hnx (by decide) (by decide)) ?_
        refine g_il2 dX1_add_23 ?_
        refine g_bipush (v := nI 32) dX1_add_24 rfl ?_
        refine g_irem dX1_add_26 (by decide) ?_
        refine g_top (rm hnx (by decide) (by decide)) ?_
        refine g_icmp_ge_n (tgt := 59) dX1_add_27 (by decide) (by omega) (by omega) (fun c27 => ?_) (fun c27 => ?_)
        · exact bad2 (by rw [hV]; unfold spnN; rw [decide_eq_false (by omega)]; rfl)
        · refine g_il2 dX1_add_30 ?_
          refine g_bipush (v := nI 32) dX1_add_31 rfl ?_
          refine g_irem dX1_add_33 (by decide) ?_
          refine g_top (rm hnx (by decide) (by decide)) ?_
          refine g_bipush (v := nI 16) dX1_add_34 rfl ?_
          refine g_icmp_gt_n (tgt := 59) dX1_add_36 (by decide) (by omega) (by omega) (fun c36 => ?_) (fun c36 => ?_)
          · exact bad2 (by rw [hV]; unfold spnN; rw [decide_eq_false (show ¬ nx % 32 ≤ 16 by omega)]; simp)
          · refine g_il3 dX1_add_39 ?_
            refine g_bipush (v := nI 32) dX1_add_40 rfl ?_
            refine g_idiv dX1_add_42 (by decide) ?_
            refine g_top (dv hny (by decide) (by decide)) ?_
            refine g_il3 dX1_add_43 ?_
            refine g_bipush (v := nI 32) dX1_add_44 rfl ?_
            refine g_irem dX1_add_46 (by decide) ?_
            refine g_top (rm hny (by decide) (by decide)) ?_
            refine g_icmp_ge_n (tgt := 59) dX1_add_47 (by decide) (by omega) (by omega) (fun c47 => ?_) (fun c47 => ?_)
            · exact bad2 (by rw [hV]; unfold spnN; rw [decide_eq_false (show ¬ ny / 32 < ny % 32 by omega)]; simp)
            · refine g_il3 dX1_add_50 ?_
              refine g_bipush (v := nI 32) dX1_add_51 rfl ?_
              refine g_irem dX1_add_53 (by decide) ?_
              refine g_top (rm hny (by decide) (by decide)) ?_
              refine g_bipush (v := nI 16) dX1_add_54 rfl ?_
              refine g_icmp_le_n (tgt := 62) dX1_add_56 (by decide) (by omega) (by omega) (fun c56 => ?_) (fun c56 => ?_)
              · have hV : addV (nI a) (nI nx) (nI ny) = true := by
                  rw [hV]
                  unfold spnN
                  rw [decide_eq_true c27, decide_eq_true c36, decide_eq_true c47, decide_eq_true c56]
                  rfl
                refine g_al0 dX1_add_62 ?_
                refine g1_f7 dX1_add_63 ?_
                refine g_il1 dX1_add_66 ?_
                refine g1_ld1 dX1_add_67 (by omega) ?_
                refine g_top ((hR.2 a ha).1) ?_
                refine g_bipush (v := nI 10) dX1_add_68 rfl ?_
                refine g_icmp_ne_n (tgt := 76) dX1_add_70 (by decide) (by omega) (by omega) (fun c70 => ?_) (fun c70 => ?_)
                · obtain ⟨b1, b2, b3⟩ := add_ok (c := c) (q := q) (by omega) hnx hny hV (by omega)
                  refine g_bipush (v := nI 10) dX1_add_76 rfl ?_
                  refine g_il1 dX1_add_78 ?_
                  refine g_imul_n dX1_add_79 ?_
                  refine g_al0 dX1_add_80 ?_
                  refine g1_f7 dX1_add_81 ?_
                  refine g_il1 dX1_add_84 ?_
                  refine g1_ld1 dX1_add_85 (by omega) ?_
                  refine g_top ((hR.2 a ha).1) ?_
                  refine g_iadd_n dX1_add_86 ?_
                  refine g_is4 dX1_add_87 ?_
                  refine g_al0 dX1_add_89 ?_
                  refine g1_f13 dX1_add_90 ?_
                  refine g_il4 dX1_add_93 ?_
                  refine g_il2 dX1_add_95 ?_
                  refine g_bipush (v := nI 32) dX1_add_96 rfl ?_
                  refine g_idiv dX1_add_98 (by decide) ?_
                  refine g_top (dv hnx (by decide) (by decide)) ?_
                  refine g1_st2 dX1_add_99 (by omega) ?_
                  refine g_al0 dX1_add_100 ?_
                  refine g1_f16 dX1_add_101 ?_
                  refine g_il4 dX1_add_104 ?_
                  refine g_il2 dX1_add_106 ?_
                  refine g_bipush (v := nI 32) dX1_add_107 rfl ?_
                  refine g_irem dX1_add_109 (by decide) ?_
                  refine g_top (rm hnx (by decide) (by decide)) ?_
                  refine g1_st3 dX1_add_110 (by omega) ?_
                  refine g_al0 dX1_add_111 ?_
                  refine g1_f19 dX1_add_112 ?_
                  refine g_il4 dX1_add_115 ?_
                  refine g_il3 dX1_add_117 ?_
                  refine g_bipush (v := nI 32) dX1_add_118 rfl ?_
                  refine g_idiv dX1_add_120 (by decide) ?_
                  refine g_top (dv hny (by decide) (by decide)) ?_
                  refine g1_st4 dX1_add_121 (by omega) ?_
                  refine g_al0 dX1_add_122 ?_
                  refine g1_f22 dX1_add_123 ?_
                  refine g_il4 dX1_add_126 ?_
                  refine g_il3 dX1_add_128 ?_
                  refine g_bipush (v := nI 32) dX1_add_129 rfl ?_
                  refine g_irem dX1_add_131 (by decide) ?_
                  refine g_top (rm hny (by decide) (by decide)) ?_
                  refine g1_st5 dX1_add_132 (by omega) ?_
                  refine g_al0 dX1_add_133 ?_
                  refine g1_f7 dX1_add_134 ?_
                  refine g_il1 dX1_add_137 ?_
                  refine g_dup2 dX1_add_138 rfl rfl ?_
                  refine g1_ld1 dX1_add_139 (by omega) ?_
                  refine g_top ((hR.2 a ha).1) ?_
                  refine g_iconst (v := nI 1) dX1_add_140 rfl ?_
                  refine g_iadd_n dX1_add_141 ?_
                  refine g1_st1 dX1_add_142 (by omega) ?_
                  refine g_al0 dX1_add_143 ?_
                  refine g1_f7 dX1_add_144 ?_
                  refine g_il1 dX1_add_147 ?_
                  refine g1_ld1 dX1_add_148 (by omega) ?_
                  refine g_top (pk_us) ?_
                  exact g_iret dX1_add_149 (⟨b1.symm, by rw [b2, b3]; exact R1_add hR ha (by omega) c27 c36 c47 c56 rfl rfl rfl rfl rfl⟩)
                · obtain ⟨b1, b2, b3⟩ := add_full (c := c) (q := q) (by omega) hV (by omega)
                  refine g_bipush (v := -3) dX1_add_73 rfl ?_
                  exact g_iret dX1_add_75 (⟨b1.symm, by rw [b2, b3]; exact hR⟩)
              · exact bad2 (by rw [hV]; unfold spnN; rw [decide_eq_false (show ¬ ny % 32 ≤ 16 by omega)]; simp)
      · exact bad (by unfold addV; rw [spn_f (Int32.not_le.mp c13), Bool.and_false, Bool.and_false])
theorem m1_drop (hR : R1 c q σ) (la : Int32) : C1_drop 1 l D ad kd [.int la] σ (fun r u => r = drpR c la ∧ R1 (drpC c la) (drpQ c q la) u) := by
  refine Con.of (lv := [some (.ref (ad 0)), some (.int la), none]) (by decide) rfl (Nat.le_of_ble_eq_true rfl) (by simp [Value.category]) (Nat.le_of_ble_eq_true rfl) rfl (fun sz => ?_)
  have bad : drpV c la = false → J1_drop 1 l D ad kd [.int la] σ sz (fun r u => r = drpR c la ∧ R1 (drpC c la) (drpQ c q la) u) σ 17 [some (.ref (ad 0)), some (.int la), none] [] := by
    intro h
    obtain ⟨b1, b2, b3⟩ := drp_bad (c := c) (q := q) h
    refine g_bipush (v := -2) dX1_drop_17 rfl ?_
    exact g_iret dX1_drop_19 (⟨b1.symm, by rw [b2, b3]; exact hR⟩)
  refine g_al0 dX1_drop_0 ?_
  refine g_il1 dX1_drop_1 ?_
  refine k1_29 dX1_drop_2 (m1_isLayer la) (by decide) (Nat.le_of_ble_eq_true rfl) ?_
  rintro r u ⟨hu, rfl⟩
  rw [hu]
  clear hu
  refine g_if_eq_b (tgt := 17) dX1_drop_5 (by decide) (fun c5 => ?_) (fun c5 => ?_)
  · exact bad (by unfold drpV; rw [c5]; rfl)
  · obtain ⟨a, ha, rfl⟩ := lay_n c5
    have hc := (hR.1 a ha).1
    refine g_al0 dX1_drop_8 ?_
    refine g1_f7 dX1_drop_9 ?_
    refine g_il1 dX1_drop_12 ?_
    refine g1_ld1 dX1_drop_13 (by omega) ?_
    refine g_top ((hR.2 a ha).1) ?_
    refine g_if_ne (tgt := 20) dX1_drop_14 (by decide) (fun c14 => ?_) (fun c14 => ?_)
    · have h0 : ¬ c a = 0 := fun h => c14 (by rw [h]; rfl)
      obtain ⟨b1, b2, b3⟩ := drp_ok (c := c) (q := q) ha h0
      have loop : ∀ (f k : Nat) (u : gS), 9 - k < f → k ≤ 9 → u 1 = σ 1 → u 2 = shf (σ 2) a k → u 3 = shf (σ 3) a k → u 4 = shf (σ 4) a k → u 5 = shf (σ 5) a k → J1_drop 1 l D ad kd [.int (nI a)] σ sz (fun r u => r = drpR c (nI a) ∧ R1 (drpC c (nI a)) (drpQ c q (nI a)) u) u 25 [some (.ref (ad 0)), some (.int (nI a)), some (.int (nI (10 * a + k)))] [] := by
        intro f
        induction f with
        | zero => intro k u h; omega
        | succ f ih =>
          intro k u hf hk s1 s2 s3 s4 s5
          refine g_il2 dX1_drop_25 ?_
          refine g_bipush (v := nI 10) dX1_drop_26 rfl ?_
          refine g_il1 dX1_drop_28 ?_
          refine g_imul_n dX1_drop_29 ?_
          refine g_bipush (v := nI 9) dX1_drop_30 rfl ?_
          refine g_iadd_n dX1_drop_32 ?_
          refine g_icmp_ge_n (tgt := 98) dX1_drop_33 (by decide) (by omega) (by omega) (fun c33 => ?_) (fun c33 => ?_)
          · have e : k = 9 := by omega
            subst e
            have hs1 : u 1 a = nI (c a) := by rw [s1]; exact (hR.2 a ha).1
            refine g_al0 dX1_drop_98 ?_
            refine g1_f7 dX1_drop_99 ?_
            refine g_il1 dX1_drop_102 ?_
            refine g_dup2 dX1_drop_103 rfl rfl ?_
            refine g1_ld1 dX1_drop_104 (by omega) ?_
            refine g_top (hs1) ?_
            refine g_iconst (v := nI 1) dX1_drop_105 rfl ?_
            refine g_isub_n dX1_drop_106 (by omega) ?_
            refine g1_st1 dX1_drop_107 (by omega) ?_
            refine g_al0 dX1_drop_108 ?_
            refine g1_f7 dX1_drop_109 ?_
            refine g_il1 dX1_drop_112 ?_
            refine g1_ld1 dX1_drop_113 (by omega) ?_
            refine g_top (pk_us) ?_
            exact g_iret dX1_drop_114 (⟨b1.symm, by rw [b2, b3]; exact R1_drp hR ha h0 (by rw [← s1]; rfl) s2 s3 s4 s5⟩)
          · refine g_al0 dX1_drop_36 ?_
            refine g1_f13 dX1_drop_37 ?_
            refine g_il2 dX1_drop_40 ?_
            refine g_al0 dX1_drop_41 ?_
            refine g1_f13 dX1_drop_42 ?_
            refine g_il2 dX1_drop_45 ?_
            refine g_iconst (v := nI 1) dX1_drop_46 rfl ?_
            refine g_iadd_n dX1_drop_47 ?_
            refine g1_ld2 dX1_drop_48 (by omega) ?_
            refine g1_st2 dX1_drop_49 (by omega) ?_
            refine g_al0 dX1_drop_50 ?_
            refine g1_f16 dX1_drop_51 ?_
            refine g_il2 dX1_drop_54 ?_
            refine g_al0 dX1_drop_55 ?_
            refine g1_f16 dX1_drop_56 ?_
            refine g_il2 dX1_drop_59 ?_
            refine g_iconst (v := nI 1) dX1_drop_60 rfl ?_
            refine g_iadd_n dX1_drop_61 ?_
            refine g1_ld3 dX1_drop_62 (by omega) ?_
            refine g1_st3 dX1_drop_63 (by omega) ?_
            refine g_al0 dX1_drop_64 ?_
            refine g1_f19 dX1_drop_65 ?_
            refine g_il2 dX1_drop_68 ?_
            refine g_al0 dX1_drop_69 ?_
            refine g1_f19 dX1_drop_70 ?_
            refine g_il2 dX1_drop_73 ?_
            refine g_iconst (v := nI 1) dX1_drop_74 rfl ?_
            refine g_iadd_n dX1_drop_75 ?_
            refine g1_ld4 dX1_drop_76 (by omega) ?_
            refine g1_st4 dX1_drop_77 (by omega) ?_
            refine g_al0 dX1_drop_78 ?_
            refine g1_f22 dX1_drop_79 ?_
            refine g_il2 dX1_drop_82 ?_
            refine g_al0 dX1_drop_83 ?_
            refine g1_f22 dX1_drop_84 ?_
            refine g_il2 dX1_drop_87 ?_
            refine g_iconst (v := nI 1) dX1_drop_88 rfl ?_
            refine g_iadd_n dX1_drop_89 ?_
            refine g1_ld5 dX1_drop_90 (by omega) ?_
            refine g1_st5 dX1_drop_91 (by omega) ?_
            refine g_ic2_n dX1_drop_92 ?_
            refine g_goto (tgt := 25) dX1_drop_95 (by decide) ?_
            refine ih (k + 1) _ (by omega) (by omega) s1 ?_ ?_ ?_ ?_
            · show upd (u 2) (10 * a + k) (u 2 (10 * a + k + 1)) = _
              rw [s2, shf_s]
            · show upd (u 3) (10 * a + k) (u 3 (10 * a + k + 1)) = _
              rw [s3, shf_s]
            · show upd (u 4) (10 * a + k) (u 4 (10 * a + k + 1)) = _
              rw [s4, shf_s]
            · show upd (u 5) (10 * a + k) (u 5 (10 * a + k + 1)) = _
              rw [s5, shf_s]
      refine g_bipush (v := nI 10) dX1_drop_20 rfl ?_
      refine g_il1 dX1_drop_22 ?_
      refine g_imul_n dX1_drop_23 ?_
      refine g_is2 dX1_drop_24 ?_
      exact loop 10 0 _ (by omega) (by omega) rfl (shf_0 _ _).symm (shf_0 _ _).symm (shf_0 _ _).symm (shf_0 _ _).symm
    · exact bad (drpV_0 ha ((nI_eq (by omega) (by omega)).mp (c14.trans nI_0.symm)))
theorem m1_covers (hR : R1 c q σ) (la i j : Int32) : C1_covers 1 l D ad kd [.int la, .int i, .int j] σ (fun r u => r = bI (covB c q la i j) ∧ R1 c q u) := by
  refine Con.of (lv := [some (.ref (ad 0)), some (.int la), some (.int i), some (.int j)]) (by decide) rfl (Nat.le_of_ble_eq_true rfl) (by simp [Value.category]) (Nat.le_of_ble_eq_true rfl) rfl (fun sz => ?_)
  have bad : covB c q la i j = false → J1_covers 1 l D ad kd [.int la, .int i, .int j] σ sz (fun r u => r = bI (covB c q la i j) ∧ R1 c q u) σ 42 [some (.ref (ad 0)), some (.int la), some (.int i), some (.int j)] [] := by
    intro h
    refine g_iconst (v := nI 0) dX1_covers_42 rfl ?_
    exact g_zret dX1_covers_43 rfl (⟨by rw [h]; rfl, hR⟩)
  refine g_al0 dX1_covers_0 ?_
  refine g_il1 dX1_covers_1 ?_
  refine k1_29 dX1_covers_2 (m1_isLayer la) (by decide) (Nat.le_of_ble_eq_true rfl) ?_
  rintro r u ⟨hu, rfl⟩
  rw [hu]
  clear hu
  refine g_if_eq_b (tgt := 42) dX1_covers_5 (by decide) (fun c5 => ?_) (fun c5 => ?_)
  · exact bad (by unfold covB; rw [c5]; rfl)
  · refine g_il2 dX1_covers_8 ?_
    refine g_if_lt (tgt := 42) dX1_covers_9 (by decide) (fun c9 => ?_) (fun c9 => ?_)
    · exact bad (by unfold covB; rw [rng_f1 c9, Bool.false_and, Bool.and_false])
    · refine g_il2 dX1_covers_12 ?_
      refine g_bipush (v := nI 15) dX1_covers_13 rfl ?_
      refine g_icmp_gt (tgt := 42) dX1_covers_15 (by decide) (fun c15 => ?_) (fun c15 => ?_)
      · exact bad (by unfold covB; rw [rng_f2 c15, Bool.false_and, Bool.and_false])
      · refine g_il3 dX1_covers_18 ?_
        refine g_if_lt (tgt := 42) dX1_covers_19 (by decide) (fun c19 => ?_) (fun c19 => ?_)
        · exact bad (by unfold covB; rw [rng_f1 c19, Bool.false_and, Bool.and_false, Bool.and_false])
        · refine g_il3 dX1_covers_22 ?_
          refine g_bipush (v := nI 15) dX1_covers_23 rfl ?_
          refine g_icmp_gt (tgt := 42) dX1_covers_25 (by decide) (fun c25 => ?_) (fun c25 => ?_)
          · exact bad (by unfold covB; rw [rng_f2 c25, Bool.false_and, Bool.and_false, Bool.and_false])
          · obtain ⟨a, ha, ea⟩ := lay_n c5
            obtain ⟨ni, hni, ei⟩ := rng_n c9 c15
            obtain ⟨nj, hnj, ej⟩ := rng_n c19 c25
            have hv : covB c q la i j = has c q a ni nj := by
              unfold covB
              rw [c5, rng_t c9 c15, rng_t c19 c25, ea, nI_clamp (by omega), ei, ej, nI_clamp (by omega), nI_clamp (by omega)]
              rfl
            refine g_al0 dX1_covers_28 ?_
            refine g_il1 dX1_covers_29 ?_
            refine g_top (ea) ?_
            refine g_il2 dX1_covers_30 ?_
            refine g_top (ei) ?_
            refine g_il3 dX1_covers_31 ?_
            refine g_top (ej) ?_
            refine k1_33 dX1_covers_32 (m1_has hR ha (by omega) (by omega)) (by decide) (Nat.le_of_ble_eq_true rfl) ?_
            rintro r u ⟨hu, rfl⟩
            rw [hu]
            clear hu
            refine g_if_eq_b (tgt := 42) dX1_covers_35 (by decide) (fun c35 => ?_) (fun c35 => ?_)
            · exact bad (hv.trans c35)
            · refine g_iconst (v := nI 1) dX1_covers_38 rfl ?_
              refine g_goto (tgt := 43) dX1_covers_39 (by decide) ?_
              exact g_zret dX1_covers_43 rfl (⟨by rw [hv, c35]; rfl, hR⟩)
theorem m1_in (hS : St1 g σ) (x y : Int32) : C1_in 0 l D ad kd [.int x, .int y] σ (fun r u => u = σ ∧ r = bI (inz g x y)) := by
  refine Con.of (lv := [some (.ref (ad 0)), some (.int x), some (.int y)]) (by decide) rfl (Nat.le_of_ble_eq_true rfl) (by simp [Value.category]) (Nat.le_of_ble_eq_true rfl) rfl (fun sz => ?_)
  have bad : inz g x y = false → J1_in 0 l D ad kd [.int x, .int y] σ sz (fun r u => u = σ ∧ r = bI (inz g x y)) σ 38 [some (.ref (ad 0)), some (.int x), some (.int y)] [] := by
    intro h
    refine g_iconst (v := nI 0) dX1_in_38 rfl ?_
    exact g_zret dX1_in_39 rfl (⟨rfl, by rw [h]; rfl⟩)
  refine g_il1 dX1_in_0 ?_
  refine g_if_lt (tgt := 38) dX1_in_1 (by decide) (fun c1 => ?_) (fun c1 => ?_)
  · exact bad (by unfold inz; rw [rng_f1 c1]; rfl)
  · refine g_il1 dX1_in_4 ?_
    refine g_bipush (v := nI 15) dX1_in_5 rfl ?_
    refine g_icmp_gt (tgt := 38) dX1_in_7 (by decide) (fun c7 => ?_) (fun c7 => ?_)
    · exact bad (by unfold inz; rw [rng_f2 c7]; rfl)
    · refine g_il2 dX1_in_10 ?_
      refine g_if_lt (tgt := 38) dX1_in_11 (by decide) (fun c11 => ?_) (fun c11 => ?_)
      · exact bad (by unfold inz; rw [rng_f1 c11, Bool.false_and, Bool.and_false])
      · refine g_il2 dX1_in_14 ?_
        refine g_bipush (v := nI 15) dX1_in_15 rfl ?_
        refine g_icmp_gt (tgt := 38) dX1_in_17 (by decide) (fun c17 => ?_) (fun c17 => ?_)
        · exact bad (by unfold inz; rw [rng_f2 c17, Bool.false_and, Bool.and_false])
        · obtain ⟨i, hi, ei⟩ := rng_n c1 c7
          obtain ⟨j, hj, ej⟩ := rng_n c11 c17
          have hv : inz g x y = g i j := by
            unfold inz
            rw [rng_t c1 c7, rng_t c11 c17, ei, ej, nI_clamp (by omega), nI_clamp (by omega)]
            rfl
          have hs : σ 6 (16 * j + i) = bI (inz g x y) := by
            rw [hS (16 * j + i) (by omega), show (16 * j + i) % 16 = i by omega, show (16 * j + i) / 16 = j by omega, hv]
          refine g_al0 dX1_in_20 ?_
          refine g1_f25 dX1_in_21 ?_
          refine g_bipush (v := nI 16) dX1_in_24 rfl ?_
          refine g_il2 dX1_in_26 ?_
          refine g_top (ej) ?_
          refine g_imul_n dX1_in_27 ?_
          refine g_il1 dX1_in_28 ?_
          refine g_top (ei) ?_
          refine g_iadd_n dX1_in_29 ?_
          refine g1_ld6 dX1_in_30 (by omega) ?_
          refine g_top (hs) ?_
          refine g_if_eq_b (tgt := 38) dX1_in_31 (by decide) (fun c31 => ?_) (fun c31 => ?_)
          · exact bad c31
          · refine g_iconst (v := nI 1) dX1_in_34 rfl ?_
            refine g_goto (tgt := 39) dX1_in_35 (by decide) ?_
            exact g_zret dX1_in_39 rfl (⟨rfl, by rw [c31]; rfl⟩)
theorem m1_combine (hR : R1 c q σ) (how la lb : Int32) : C1_combine 1 l D ad kd [.int how, .int la, .int lb] σ (fun r u => r = bI (lay how && (lay la && lay lb)) ∧ R1 c q u ∧ ((lay how && (lay la && lay lb)) = true → St1 (gg c q how.toNatClampNeg la.toNatClampNeg lb.toNatClampNeg) u)) := by
  refine Con.of (lv := [some (.ref (ad 0)), some (.int how), some (.int la), some (.int lb), none, none, none]) (by decide) rfl (Nat.le_of_ble_eq_true rfl) (by simp [Value.category]) (Nat.le_of_ble_eq_true rfl) rfl (fun sz => ?_)
  have bad : (lay how && (lay la && lay lb)) = false → J1_combine 1 l D ad kd [.int how, .int la, .int lb] σ sz (fun r u => r = bI (lay how && (lay la && lay lb)) ∧ R1 c q u ∧ ((lay how && (lay la && lay lb)) = true → St1 (gg c q how.toNatClampNeg la.toNatClampNeg lb.toNatClampNeg) u)) σ 25 [some (.ref (ad 0)), some (.int how), some (.int la), some (.int lb), none, none, none] [] := by
    intro h
    refine g_iconst (v := nI 0) dX1_combine_25 rfl ?_
    exact g_zret dX1_combine_26 rfl (⟨by rw [h]; rfl, hR, fun z => by rw [h] at z; cases z⟩)
  refine g_il1 dX1_combine_0 ?_
  refine g_if_lt (tgt := 25) dX1_combine_1 (by decide) (fun c1 => ?_) (fun c1 => ?_)
  · exact bad (by rw [lay_f1 c1]; rfl)
  · refine g_il1 dX1_combine_4 ?_
    refine g_iconst (v := nI 2) dX1_combine_5 rfl ?_
    refine g_icmp_gt (tgt := 25) dX1_combine_6 (by decide) (fun c6 => ?_) (fun c6 => ?_)
    · exact bad (by rw [lay_f2 c6]; rfl)
    · refine g_al0 dX1_combine_9 ?_
      refine g_il2 dX1_combine_10 ?_
      refine k1_29 dX1_combine_11 (m1_isLayer la) (by decide) (Nat.le_of_ble_eq_true rfl) ?_
      rintro r u ⟨hu, rfl⟩
      rw [hu]
      clear hu
      refine g_if_eq_b (tgt := 25) dX1_combine_14 (by decide) (fun c14 => ?_) (fun c14 => ?_)
      · exact bad (by rw [c14, Bool.false_and, Bool.and_false])
      · refine g_al0 dX1_combine_17 ?_
        refine g_il3 dX1_combine_18 ?_
        refine k1_29 dX1_combine_19 (m1_isLayer lb) (by decide) (Nat.le_of_ble_eq_true rfl) ?_
        rintro r u ⟨hu, rfl⟩
        rw [hu]
        clear hu
        refine g_if_ne_b (tgt := 27) dX1_combine_22 (by decide) (fun c22 => ?_) (fun c22 => ?_)
        · have hV := lay_t c1 c6
          have hW : (lay how && (lay la && lay lb)) = true := by
            rw [hV, c14, c22]
            rfl
          obtain ⟨h, hh, rfl⟩ := lay_n hV
          obtain ⟨a, ha, rfl⟩ := lay_n c14
          obtain ⟨b, hb, rfl⟩ := lay_n c22
          rw [hW, nI_clamp (by omega), nI_clamp (by omega), nI_clamp (by omega)]
          have loop : ∀ (d k : Nat) (m6 : Nat → Int32) (w5 w6 : Option Value), 256 - k < d → k ≤ 256 → (∀ x, x < k → m6 x = bI (gg c q h a b (x % 16) (x / 16))) → J1_combine 1 l D ad kd [.int (nI h), .int (nI a), .int (nI b)] σ sz (fun r u => r = bI true ∧ R1 c q u ∧ (true = true → St1 (gg c q h a b) u)) (sf σ 6 m6) 30 [some (.ref (ad 0)), some (.int (nI h)), some (.int (nI a)), some (.int (nI b)), some (.int (nI k)), w5, w6] [] := by
            intro d
            induction d with
            | zero => intro k m6 w5 w6 z; omega
            | succ d ih =>
              intro k m6 w5 w6 hd hk hm
              refine g_il4 dX1_combine_30 ?_
              refine g_sipush (v := nI 256) dX1_combine_32 rfl ?_
              refine g_icmp_ge_n (tgt := 145) dX1_combine_35 (by decide) (by omega) (by omega) (fun c35 => ?_) (fun c35 => ?_)
              · refine g_iconst (v := nI 1) dX1_combine_145 rfl ?_
                exact g_zret dX1_combine_146 rfl (⟨rfl, hR.to rfl rfl rfl rfl rfl, fun _ x hx => hm x (by omega)⟩)
              · refine g_al0 dX1_combine_38 ?_
                refine g_il2 dX1_combine_39 ?_
                refine g_il4 dX1_combine_40 ?_
                refine g_bipush (v := nI 16) dX1_combine_42 rfl ?_
                refine g_irem dX1_combine_44 (by decide) ?_
                refine g_top (rm (by omega) (by decide) (by decide)) ?_
                refine g_il4 dX1_combine_45 ?_
                refine g_bipush (v := nI 16) dX1_combine_47 rfl ?_
                refine g_idiv dX1_combine_49 (by decide) ?_
                refine g_top (dv (by omega) (by decide) (by decide)) ?_
                refine k1_33 dX1_combine_50 (m1_has (σ := sf σ 6 m6) (hR.to rfl rfl rfl rfl rfl) ha (by omega) (by omega)) (by decide) (Nat.le_of_ble_eq_true rfl) ?_
                rintro r u ⟨hu, rfl⟩
                rw [hu]
                clear hu
                refine g_is5 dX1_combine_53 ?_
                refine g_al0 dX1_combine_55 ?_
                refine g_il3 dX1_combine_56 ?_
                refine g_il4 dX1_combine_57 ?_
                refine g_bipush (v := nI 16) dX1_combine_59 rfl ?_
                refine g_irem dX1_combine_61 (by decide) ?_
                refine g_top (rm (by omega) (by decide) (by decide)) ?_
                refine g_il4 dX1_combine_62 ?_
                refine g_bipush (v := nI 16) dX1_combine_64 rfl ?_
                refine g_idiv dX1_combine_66 (by decide) ?_
                refine g_top (dv (by omega) (by decide) (by decide)) ?_
                refine k1_33 dX1_combine_67 (m1_has (σ := sf σ 6 m6) (hR.to rfl rfl rfl rfl rfl) hb (by omega) (by omega)) (by decide) (Nat.le_of_ble_eq_true rfl) ?_
                rintro r u ⟨hu, rfl⟩
                rw [hu]
                clear hu
                refine g_is6 dX1_combine_70 ?_
                refine g_al0 dX1_combine_72 ?_
                refine g1_f25 dX1_combine_73 ?_
                refine g_il4 dX1_combine_76 ?_
                refine g_il1 dX1_combine_78 ?_
                have hgg : gg c q h a b (k % 16) (k / 16) = cmb h (has c q a (k % 16) (k / 16)) (has c q b (k % 16) (k / 16)) := rfl
                generalize has c q a (k % 16) (k / 16) = p1 at hgg ⊢
                generalize has c q b (k % 16) (k / 16) = p2 at hgg ⊢
                have fin : ∀ v : Bool, v = cmb h p1 p2 → J1_combine 1 l D ad kd [.int (nI h), .int (nI a), .int (nI b)] σ sz (fun r u => r = bI true ∧ R1 c q u ∧ (true = true → St1 (gg c q h a b) u)) (sf σ 6 m6) 138 [some (.ref (ad 0)), some (.int (nI h)), some (.int (nI a)), some (.int (nI b)), some (.int (nI k)), some (.int (bI p1)), some (.int (bI p2))] [.int (bI v), .int (nI k), .ref (ad 6)] := by
                  intro v hv
                  refine g1_st6 dX1_combine_138 (by omega) (nar_b _) ?_
                  refine g_ws (congrArg (w1 ad kd) (sf_sf _ _ _ _)) ?_
                  refine g_ic4_n dX1_combine_139 ?_
                  refine g_goto (tgt := 30) dX1_combine_142 (by decide) ?_
                  refine ih (k + 1) _ _ _ (by omega) (by omega) (fun x hx => ?_)
                  show upd m6 k (bI v) x = _
                  by_cases y : x = k
                  · rw [y, pk_us, hv, hgg]
                  · rw [pk_un y]
                    exact hm x (by omega)
                refine g_if_ne (tgt := 100) dX1_combine_79 (by decide) (fun c79 => ?_) (fun c79 => ?_)
                · have e0 : ¬ h = 0 := fun e => c79 (by rw [e]; rfl)
                  refine g_il1 dX1_combine_100 ?_
                  refine g_iconst (v := nI 1) dX1_combine_101 rfl ?_
                  refine g_icmp_ne_n (tgt := 123) dX1_combine_102 (by decide) (by omega) (by omega) (fun c102 => ?_) (fun c102 => ?_)
                  · have e2 : h = 2 := by omega
                    refine g_il5 dX1_combine_123 ?_
                    refine g_if_eq_b (tgt := 137) dX1_combine_125 (by decide) (fun c125 => ?_) (fun c125 => ?_)
                    · refine g_iconst (v := nI 0) dX1_combine_137 rfl ?_
                      exact fin false (by rw [e2, c125]; rfl)
                    · refine g_il6 dX1_combine_128 ?_
                      refine g_if_ne_b (tgt := 137) dX1_combine_130 (by decide) (fun c130 => ?_) (fun c130 => ?_)
                      · refine g_iconst (v := nI 0) dX1_combine_137 rfl ?_
                        exact fin false (by rw [e2, c125, c130]; rfl)
                      · refine g_iconst (v := nI 1) dX1_combine_133 rfl ?_
                        refine g_goto (tgt := 138) dX1_combine_134 (by decide) ?_
                        exact fin true (by rw [e2, c125, c130]; rfl)
                  · refine g_il5 dX1_combine_105 ?_
                    refine g_if_ne_b (tgt := 115) dX1_combine_107 (by decide) (fun c107 => ?_) (fun c107 => ?_)
                    · refine g_iconst (v := nI 1) dX1_combine_115 rfl ?_
                      refine g_goto (tgt := 138) dX1_combine_116 (by decide) ?_
                      exact fin true (by rw [c102, c107]; rfl)
                    · refine g_il6 dX1_combine_110 ?_
                      refine g_if_eq_b (tgt := 119) dX1_combine_112 (by decide) (fun c112 => ?_) (fun c112 => ?_)
                      · refine g_iconst (v := nI 0) dX1_combine_119 rfl ?_
                        refine g_goto (tgt := 138) dX1_combine_120 (by decide) ?_
                        exact fin false (by rw [c102, c107, c112]; rfl)
                      · refine g_iconst (v := nI 1) dX1_combine_115 rfl ?_
                        refine g_goto (tgt := 138) dX1_combine_116 (by decide) ?_
                        exact fin true (by rw [c102, c107, c112]; rfl)
                · have e0 : h = 0 := (nI_eq (by omega) (by omega)).mp (c79.trans nI_0.symm)
                  refine g_il5 dX1_combine_82 ?_
                  refine g_if_eq_b (tgt := 96) dX1_combine_84 (by decide) (fun c84 => ?_) (fun c84 => ?_)
                  · refine g_iconst (v := nI 0) dX1_combine_96 rfl ?_
                    refine g_goto (tgt := 138) dX1_combine_97 (by decide) ?_
                    exact fin false (by rw [e0, c84]; rfl)
                  · refine g_il6 dX1_combine_87 ?_
                    refine g_if_eq_b (tgt := 96) dX1_combine_89 (by decide) (fun c89 => ?_) (fun c89 => ?_)
                    · refine g_iconst (v := nI 0) dX1_combine_96 rfl ?_
                      refine g_goto (tgt := 138) dX1_combine_97 (by decide) ?_
                      exact fin false (by rw [e0, c84, c89]; rfl)
                    · refine g_iconst (v := nI 1) dX1_combine_92 rfl ?_
                      refine g_goto (tgt := 138) dX1_combine_93 (by decide) ?_
                      exact fin true (by rw [e0, c84, c89]; rfl)
          refine g_iconst (v := nI 0) dX1_combine_27 rfl ?_
          refine g_is4 dX1_combine_28 ?_
          have h0 := loop 257 0 (σ 6) none none (by omega) (by omega) (fun x hx => absurd hx (Nat.not_lt_zero x))
          rw [sf_self] at h0
          exact h0
        · exact bad (by rw [c22, Bool.and_false, Bool.and_false])
end LEAF1
end
section
set_option maxRecDepth 100000
/-! PLAIN LAWS: DrcScanModel counts by rows and cells, DrcScan by columns and strips -/
section PURE1
variable {g : Nat → Nat → Bool}
theorem rng_nI {i : Nat} (hi : i < 2 ^ 31) : rng (nI i) = decide (i < 16) := by
  rcases Nat.lt_or_ge i 16 with z | z
  · rw [decide_eq_true z, rng_t (nI_pos hi) (nI_nlt (by omega) (by omega))]
  · rw [decide_eq_false (by omega), rng_f2 (nI_lt (by omega) hi)]
theorem inz_nn (gi : ∀ i j, 16 ≤ i → g i j = false) (gj : ∀ i j, 16 ≤ j → g i j = false) {i j : Nat} (hi : i < 2 ^ 31) (hj : j < 2 ^ 31) : inz g (nI i) (nI j) = g i j := by
  unfold inz
  rw [rng_nI hi, rng_nI hj, nI_clamp hi, nI_clamp hj]
  rcases Nat.lt_or_ge i 16 with z | z
  · rcases Nat.lt_or_ge j 16 with y | y
    · rw [decide_eq_true z, decide_eq_true y]
      rfl
    · rw [gj i j y, Bool.and_false, Bool.and_false]
  · rw [gi i j z, Bool.and_false, Bool.and_false]
theorem nI_m1 (i : Nat) : nI (i + 1) - nI 1 = nI i := nI_pred i
theorem inz_pn (gi : ∀ i j, 16 ≤ i → g i j = false) (gj : ∀ i j, 16 ≤ j → g i j = false) {i j : Nat} (hi : i < 2 ^ 31) (hj : j < 2 ^ 31) : inz g (nI i - nI 1) (nI j) = pvx g i j := by
  cases i with
  | zero =>
    unfold inz
    rw [rng_f1 (show nI 0 - nI 1 < 0 by decide)]
    rfl
  | succ i =>
    rw [nI_m1, inz_nn gi gj (by omega) hj]
    rfl
theorem inz_np (gi : ∀ i j, 16 ≤ i → g i j = false) (gj : ∀ i j, 16 ≤ j → g i j = false) {i j : Nat} (hi : i < 2 ^ 31) (hj : j < 2 ^ 31) : inz g (nI i) (nI j - nI 1) = pv (g i) j := by
  cases j with
  | zero =>
    unfold inz
    rw [rng_f1 (show nI 0 - nI 1 < 0 by decide), Bool.false_and, Bool.and_false]
    rfl
  | succ j =>
    rw [nI_m1, inz_nn gi gj hi (by omega)]
    rfl
theorem inz_pp (gi : ∀ i j, 16 ≤ i → g i j = false) (gj : ∀ i j, 16 ≤ j → g i j = false) {i j : Nat} (hi : i < 2 ^ 31) (hj : j < 2 ^ 31) : inz g (nI i - nI 1) (nI j - nI 1) = pv (pvx g i) j := by
  cases j with
  | zero =>
    unfold inz
    rw [rng_f1 (show nI 0 - nI 1 < 0 by decide), Bool.false_and, Bool.and_false]
    rfl
  | succ j =>
    rw [nI_m1, inz_pn gi gj hi (by omega)]
    rfl
/-- two rows more than the grid has are empty -/
theorem sm_18 {f : Nat → Nat} (h : ∀ j, 16 ≤ j → f j = 0) : sm f 18 = sm f 16 := by
  show sm f 16 + f 16 + f 17 = _
  rw [h 16 (by omega), h 17 (by omega)]
  rfl
theorem area_eq (gj : ∀ i j, 16 ≤ j → g i j = false) : sm (fun x => tn (g (x % 16) (x / 16))) 256 = sArea g := by
  rw [show (256 : Nat) = 16 * 16 from rfl, sm_grid (fun i j => tn (g i j)) 16, ← sm_swap (fun i j => tn (g i j)) 16 16]
  exact sm_cong fun i _ => (sm_18 fun j hj => by rw [gj i j hj]; rfl).symm
/-- the ends of the runs in a line are its edges -/
theorem edge1 (f : Nat → Bool) : ∀ N, sm (fun i => tn (f i && !pv f i) + tn (f i && !f (i + 1))) N = sm (fun x => tn (pv f x ^^ f x)) N + tn (pv f N && !f N)
  | 0 => rfl
  | N + 1 => by
    rw [sm_succ, sm_succ, edge1 f N]
    show _ = _ + _ + tn (f N && !f (N + 1))
    cases pv f N <;> cases f N <;> cases f (N + 1) <;> simp [tn] <;> omega
theorem edge2 {f : Nat → Bool} {N : Nat} (h : f N = false) : sm (fun i => tn (f i && !pv f i) + tn (f i && !f (i + 1))) N = sm (fun x => tn (pv f x ^^ f x)) (N + 1) := by
  rw [edge1, sm_succ, h]
  cases pv f N <;> rfl
def cel4 (g : Nat → Nat → Bool) (i j : Nat) : Nat := (tn (g i j && !pvx g i j) + tn (g i j && !g (i + 1) j)) + (tn (g i j && !pv (g i) j) + tn (g i j && !g i (j + 1)))
theorem pv_col (g : Nat → Nat → Bool) (i j : Nat) : pv (fun x => g x j) i = pvx g i j := by cases i <;> rfl
theorem outl_eq (gi : ∀ i j, 16 ≤ i → g i j = false) (gj : ∀ i j, 16 ≤ j → g i j = false) : sm (fun j => sm (fun i => cel4 g i j) 16) 16 = sOutl g := by
  have e1 : ∀ j, sm (fun i => tn (g i j && !pvx g i j) + tn (g i j && !g (i + 1) j)) 16 = sm (fun x => tn (pvx g x j ^^ g x j)) 17 := by
    intro j
    have h := edge2 (f := fun x => g x j) (N := 16) (gi 16 j (by omega))
    rw [sm_cong (g := fun i => tn (g i j && !pvx g i j) + tn (g i j && !g (i + 1) j)) (fun k _ => by rw [pv_col]), sm_cong (f := fun x => tn (pv (fun x => g x j) x ^^ g x j)) (g := fun x => tn (pvx g x j ^^ g x j)) (fun k _ => by rw [pv_col])] at h
    exact h
  have e2 : sm (fun j => sm (fun i => tn (g i j && !pvx g i j) + tn (g i j && !g (i + 1) j)) 16) 16 = sm (edgX g) 17 := by
    rw [sm_cong (fun j _ => e1 j), ← sm_swap (fun x j => tn (pvx g x j ^^ g x j)) 16 17]
    refine sm_cong fun x _ => (sm_18 fun j hj => ?_).symm
    rw [gj x j hj, show pvx g x j = false from by cases x with | zero => rfl | succ x => exact gj x j hj]
    rfl
  have e3 : sm (fun j => sm (fun i => tn (g i j && !pv (g i) j) + tn (g i j && !g i (j + 1))) 16) 16 = sm (edgY g) 16 := by
    rw [← sm_swap (fun i j => tn (g i j && !pv (g i) j) + tn (g i j && !g i (j + 1))) 16 16]
    refine sm_cong fun i _ => ?_
    rw [edge2 (f := g i) (N := 16) (gj i 16 (by omega))]
    show sm (fun x => tn (pv (g i) x ^^ g i x)) 17 = sm (fun j => tn (g i j ^^ pv (g i) j)) 17 + tn (g i 17 ^^ pv (g i) 17)
    rw [show pv (g i) 17 = g i 16 from rfl, gj i 16 (by omega), gj i 17 (by omega), sm_cong (fun k _ => by rw [Bool.xor_comm])]
    rfl
  rw [show (fun j => sm (fun i => cel4 g i j) 16) = (fun j => sm (fun i => tn (g i j && !pvx g i j) + tn (g i j && !g (i + 1) j)) 16 + sm (fun i => tn (g i j && !pv (g i) j) + tn (g i j && !g i (j + 1))) 16) from funext fun j => sm_add _ _ 16, sm_add, e2, e3]
  rfl
theorem corn_eq (gj : ∀ i j, 16 ≤ j → g i j = false) : sm (fun y => sm (fun x => tn ((pvx g x y ^^ g x y) ^^ (pv (pvx g x) y ^^ pv (g x) y))) 17) 17 = sCorn g := by
  rw [← sm_swap (fun x y => tn ((pvx g x y ^^ g x y) ^^ (pv (pvx g x) y ^^ pv (g x) y))) 17 17]
  refine sm_cong fun x _ => ?_
  have pj : ∀ j, 16 ≤ j → pvx g x j = false := fun j hj => by cases x with
    | zero => rfl
    | succ x => exact gj x j hj
  show _ = sm _ 17 + tn ((pvx g x 17 ^^ g x 17) ^^ (pv (pvx g x) 17 ^^ pv (g x) 17))
  rw [show pv (pvx g x) 17 = pvx g x 16 from rfl, show pv (g x) 17 = g x 16 from rfl, pj 17 (by omega), pj 16 (by omega), gj x 17 (by omega), gj x 16 (by omega)]
  rfl
theorem mark_eq (inn : Bool) (w : Nat) (gj : ∀ i j, 16 ≤ j → g i j = false) : sm (fun j => sm (fun i => tn (mrk inn g w i j)) 16) 16 = sMark inn g w := by
  rw [← sm_swap (fun i j => tn (mrk inn g w i j)) 16 16]
  refine sm_cong fun i _ => (sm_18 fun j hj => ?_).symm
  unfold mrk
  rw [short_no (fc_j gj hj), short_no (f := fun x => fc inn g x j) (fc_j gj hj)]
  rfl
/-! runs -/
theorem rl_le (f : Nat → Bool) : ∀ i, rl f i ≤ i + 1
  | 0 => tn_le _
  | i + 1 => by
    show (if f (i + 1) = true then rl f i + 1 else 0) ≤ i + 1 + 1
    have := rl_le f i
    split <;> omega
theorem rl_all (f : Nat → Bool) : ∀ i t, t < rl f i → f (i - t) = true
  | 0, t, h => by
    have h : t < tn (f 0) := h
    rw [Nat.zero_sub]
    cases hf : f 0
    · rw [hf] at h
      exact absurd h (Nat.not_lt_zero t)
    · rfl
  | i + 1, t, h => by
    have h : t < (if f (i + 1) = true then rl f i + 1 else 0) := h
    by_cases z : f (i + 1) = true
    · rw [if_pos z] at h
      cases t with
      | zero => exact z
      | succ t =>
        rw [show i + 1 - (t + 1) = i - t by omega]
        exact rl_all f i t (by omega)
    · rw [if_neg z] at h
      exact absurd h (Nat.not_lt_zero t)
theorem rl_end (f : Nat → Bool) : ∀ i, rl f i = i + 1 ∨ f (i - rl f i) = false
  | 0 => by
    show tn (f 0) = 1 ∨ f (0 - tn (f 0)) = false
    cases h : f 0
    · exact Or.inr h
    · exact Or.inl rfl
  | i + 1 => by
    show (if f (i + 1) = true then rl f i + 1 else 0) = i + 1 + 1 ∨ f (i + 1 - (if f (i + 1) = true then rl f i + 1 else 0)) = false
    by_cases z : f (i + 1) = true
    · rw [if_pos z]
      rcases rl_end f i with h | h
      · exact Or.inl (by omega)
      · exact Or.inr (by rwa [show i + 1 - (rl f i + 1) = i - rl f i by omega])
    · rw [if_neg z]
      exact Or.inr (by simpa using z)
theorem rr_le (f : Nat → Bool) : ∀ n i, rr f n i ≤ n
  | 0, _ => Nat.le_refl _
  | n + 1, i => by
    show (if f i = true then rr f n (i + 1) + 1 else 0) ≤ n + 1
    have := rr_le f n (i + 1)
    split <;> omega
theorem rr_end (f : Nat → Bool) : ∀ n i, rr f n i = n ∨ f (i + rr f n i) = false
  | 0, _ => Or.inl rfl
  | n + 1, i => by
    show (if f i = true then rr f n (i + 1) + 1 else 0) = n + 1 ∨ f (i + (if f i = true then rr f n (i + 1) + 1 else 0)) = false
    by_cases z : f i = true
    · rw [if_pos z]
      rcases rr_end f n (i + 1) with h | h
      · exact Or.inl (by omega)
      · exact Or.inr (by rwa [show i + (rr f n (i + 1) + 1) = i + 1 + rr f n (i + 1) by omega])
    · rw [if_neg z]
      exact Or.inr (by simpa using z)
theorem rr_pos {f : Nat → Bool} {n i : Nat} (h : f i = true) : 1 ≤ rr f (n + 1) i := by
  show 1 ≤ (if f i = true then rr f n (i + 1) + 1 else 0)
  rw [if_pos h]
  omega
theorem rr_shift (f : Nat → Bool) (i : Nat) : ∀ n s, rr (fun k => f (i + k)) n s = rr f n (i + s)
  | 0, _ => rfl
  | n + 1, s => by
    show (if f (i + s) = true then rr (fun k => f (i + k)) n (s + 1) + 1 else 0) = (if f (i + s) = true then rr f n (i + s + 1) + 1 else 0)
    rw [rr_shift f i n (s + 1)]
    rfl
theorem rr_cong {f h : Nat → Bool} : ∀ n i, (∀ t, i ≤ t → t < i + n → f t = h t) → rr f n i = rr h n i
  | 0, _, _ => rfl
  | n + 1, i, e => by
    show (if f i = true then rr f n (i + 1) + 1 else 0) = (if h i = true then rr h n (i + 1) + 1 else 0)
    rw [e i (Nat.le_refl _) (by omega), rr_cong n (i + 1) (fun t t1 t2 => e t (by omega) (by omega))]
def ps (x d : Int32) : Nat → Int32
  | 0 => x
  | k + 1 => ps x d k + d
def sok (g : Nat → Nat → Bool) (want : Bool) (x y : Int32) : Bool := (rng x && rng y) && !(inz g x y ^^ want)
theorem ps_0 (i : Nat) : ∀ t, ps (nI i) (nI 0) t = nI i
  | 0 => rfl
  | t + 1 => by
    show ps (nI i) (nI 0) t + nI 0 = nI i
    rw [ps_0 i t, nI_add]
    rfl
theorem ps_1 (i : Nat) : ∀ t, ps (nI i) (nI 1) t = nI (i + t)
  | 0 => rfl
  | t + 1 => by
    show ps (nI i) (nI 1) t + nI 1 = nI (i + (t + 1))
    rw [ps_1 i t, nI_add]
    rfl
theorem ps_m (i : Nat) : ∀ t, t ≤ i → ps (nI i) (-1) t = nI (i - t)
  | 0, _ => rfl
  | t + 1, h => by
    show ps (nI i) (-1) t + -1 = nI (i - (t + 1))
    rw [ps_m i t (by omega), show i - t = (i - (t + 1)) + 1 by omega, pk_m1]
    rw [show i - (t + 1) + 1 - 1 = i - (t + 1) by omega] at *
theorem ps_m2 (i : Nat) : ps (nI i) (-1) (i + 1) = -1 := by
  show ps (nI i) (-1) i + -1 = -1
  rw [ps_m i i (Nat.le_refl _), Nat.sub_self]
  decide
theorem sok_nn {want : Bool} (gi : ∀ i j, 16 ≤ i → g i j = false) (gj : ∀ i j, 16 ≤ j → g i j = false) {i j : Nat} (hi : i < 2 ^ 31) (hj : j < 2 ^ 31) : sok g want (nI i) (nI j) = fc (!want) g i j := by
  unfold sok
  rw [rng_nI hi, rng_nI hj, inz_nn gi gj hi hj]
  cases want
  · show _ = ((decide (i < 16) && decide (j < 16)) && !g i j)
    rw [Bool.xor_false]
  · show _ = g i j
    rw [Bool.xor_true, Bool.not_not]
    rcases Nat.lt_or_ge i 16 with z | z
    · rcases Nat.lt_or_ge j 16 with y | y
      · rw [decide_eq_true z, decide_eq_true y]
        rfl
      · rw [gj i j y, Bool.and_false]
    · rw [gi i j z, Bool.and_false]
theorem sok_nx {want : Bool} {x y : Int32} (h : x < 0) : sok g want x y = false := by
  unfold sok
  rw [rng_f1 h]
  rfl
theorem sok_ny {want : Bool} {x y : Int32} (h : y < 0) : sok g want x y = false := by
  unfold sok
  rw [rng_f1 h, Bool.and_false]
  rfl
theorem run_r {want : Bool} (gi : ∀ i j, 16 ≤ i → g i j = false) (gj : ∀ i j, 16 ≤ j → g i j = false) {i j : Nat} (hi : i < 16) (hj : j < 16) : rr (fun t => sok g want (ps (nI i) (nI 1) t) (ps (nI j) (nI 0) t)) 16 0 = rr (fun x => fc (!want) g x j) 16 i := by
  rw [← Nat.add_zero i, ← rr_shift (fun x => fc (!want) g x j) i 16 0, Nat.add_zero]
  refine rr_cong 16 0 fun t t1 t2 => ?_
  rw [ps_1, ps_0, sok_nn gi gj (by omega) (by omega)]
theorem run_u {want : Bool} (gi : ∀ i j, 16 ≤ i → g i j = false) (gj : ∀ i j, 16 ≤ j → g i j = false) {i j : Nat} (hi : i < 16) (hj : j < 16) : rr (fun t => sok g want (ps (nI i) (nI 0) t) (ps (nI j) (nI 1) t)) 16 0 = rr (fc (!want) g i) 16 j := by
  rw [← Nat.add_zero j, ← rr_shift (fc (!want) g i) j 16 0, Nat.add_zero]
  refine rr_cong 16 0 fun t t1 t2 => ?_
  rw [ps_1, ps_0, sok_nn gi gj (by omega) (by omega)]
theorem run_l {want : Bool} (gi : ∀ i j, 16 ≤ i → g i j = false) (gj : ∀ i j, 16 ≤ j → g i j = false) {i j : Nat} (hi : i < 16) (hj : j < 16) : rr (fun t => sok g want (ps (nI i) (-1) t) (ps (nI j) (nI 0) t)) 16 0 = rl (fun x => fc (!want) g x j) i := by
  have hle := rl_le (fun x => fc (!want) g x j) i
  refine rr_of _ 16 0 (by omega) (fun t ht => ?_) (Or.inr ?_)
  · rw [Nat.zero_add, ps_m i t (by omega), ps_0, sok_nn gi gj (by omega) (by omega)]
    exact rl_all (fun x => fc (!want) g x j) i t ht
  · rw [Nat.zero_add]
    by_cases e : rl (fun x => fc (!want) g x j) i = i + 1
    · rw [e, ps_m2]
      exact sok_nx (by decide)
    · have h := (rl_end (fun x => fc (!want) g x j) i).resolve_left e
      rw [ps_m i _ (by omega), ps_0, sok_nn gi gj (by omega) (by omega)]
      exact h
theorem run_d {want : Bool} (gi : ∀ i j, 16 ≤ i → g i j = false) (gj : ∀ i j, 16 ≤ j → g i j = false) {i j : Nat} (hi : i < 16) (hj : j < 16) : rr (fun t => sok g want (ps (nI i) (nI 0) t) (ps (nI j) (-1) t)) 16 0 = rl (fc (!want) g i) j := by
  have hle := rl_le (fc (!want) g i) j
  refine rr_of _ 16 0 (by omega) (fun t ht => ?_) (Or.inr ?_)
  · rw [Nat.zero_add, ps_m j t (by omega), ps_0, sok_nn gi gj (by omega) (by omega)]
    exact rl_all (fc (!want) g i) j t ht
  · rw [Nat.zero_add]
    by_cases e : rl (fc (!want) g i) j = j + 1
    · rw [e, ps_m2]
      exact sok_ny (by decide)
    · have h := (rl_end (fc (!want) g i) j).resolve_left e
      rw [ps_m j _ (by omega), ps_0, sok_nn gi gj (by omega) (by omega)]
      exact h
end PURE1
end
section
set_option maxRecDepth 100000
/-! DrcScanModel: area, outline, corners -/
theorem bx_e {p q : Bool} (h : bI p = bI q) : nI 0 = bI (p ^^ q) := by
  rw [bI_inj.mp h, Bool.xor_self]
  rfl
theorem bx_n {p q : Bool} (h : ¬ bI p = bI q) : nI 1 = bI (p ^^ q) := by
  have h : ¬ p = q := fun e => h (by rw [e])
  revert h
  cases p <;> cases q <;> simp <;> rfl
section AOC1
variable {l : Launch} {D : va_G} {ad : Nat → Nat} {kd : Nat → ClassId} {σ : gS} {c : Nat → Nat} {q : Nat → Nat → Nat}
theorem m1_area (hR : R1 c q σ) (how la lb : Int32) : C1_area 2 l D ad kd [.int how, .int la, .int lb] σ (fun r u => r = cmbR sArea c q how la lb ∧ R1 c q u) := by
  refine Con.of (lv := [some (.ref (ad 0)), some (.int how), some (.int la), some (.int lb), none, none]) (by decide) rfl (Nat.le_of_ble_eq_true rfl) (by simp [Value.category]) (Nat.le_of_ble_eq_true rfl) rfl (fun sz => ?_)
  refine g_al0 dX1_area_0 ?_
  refine g_il1 dX1_area_1 ?_
  refine g_il2 dX1_area_2 ?_
  refine g_il3 dX1_area_3 ?_
  refine k1_37 dX1_area_4 (m1_combine hR how la lb) (by decide) (Nat.le_of_ble_eq_true rfl) ?_
  rintro r u ⟨rfl, hR, hS⟩
  refine g_if_ne_b (tgt := 13) dX1_area_7 (by decide) (fun c7 => ?_) (fun c7 => ?_)
  · have hS := hS c7
    obtain ⟨c71, c72⟩ := Bool.and_eq_true_iff.mp c7
    obtain ⟨c73, c74⟩ := Bool.and_eq_true_iff.mp c72
    obtain ⟨h, hh, rfl⟩ := lay_n c71
    obtain ⟨a, ha, rfl⟩ := lay_n c73
    obtain ⟨b, hb, rfl⟩ := lay_n c74
    rw [cmbR_ok hh ha hb]
    rw [nI_clamp (by omega), nI_clamp (by omega), nI_clamp (by omega)] at hS
    have gj : ∀ i j, 16 ≤ j → gg c q h a b i j = false := fun i j hj => gg_j hR.1 ha hb h i hj
    have gi : ∀ i j, 16 ≤ i → gg c q h a b i j = false := fun i j hi => gg_i hR.1 ha hb h hi j
    generalize gg c q h a b = g at hS gj gi ⊢
    have loop : ∀ (d k : Nat), 256 - k < d → k ≤ 256 → J1_area 2 l D ad kd [.int (nI h), .int (nI a), .int (nI b)] σ sz (fun r u => r = nI (sArea g) ∧ R1 c q u) u 19 [some (.ref (ad 0)), some (.int (nI h)), some (.int (nI a)), some (.int (nI b)), some (.int (nI (sm (fun x => tn (g (x % 16) (x / 16))) k))), some (.int (nI k))] [] := by
      intro d
      induction d with
      | zero => intro k z; omega
      | succ d ih =>
        intro k hd hk
        refine g_il5 dX1_area_19 ?_
        refine g_sipush (v := nI 256) dX1_area_21 rfl ?_
        refine g_icmp_ge_n (tgt := 46) dX1_area_24 (by decide) (by omega) (by omega) (fun c24 => ?_) (fun c24 => ?_)
        · have e : k = 256 := by omega
          subst e
          refine g_il4 dX1_area_46 ?_
          exact g_iret dX1_area_48 (⟨congrArg nI (area_eq gj), hR⟩)
        · have hn : sm (fun x => tn (g (x % 16) (x / 16))) (k + 1) = sm (fun x => tn (g (x % 16) (x / 16))) k + tn (g (k % 16) (k / 16)) := rfl
          have h0 := ih (k + 1) (by omega) (by omega)
          rw [hn] at h0
          refine g_al0 dX1_area_27 ?_
          refine g1_f25 dX1_area_28 ?_
          refine g_il5 dX1_area_31 ?_
          refine g1_ld6 dX1_area_33 (by omega) ?_
          refine g_top (hS k (by omega)) ?_
          refine g_if_eq_b (tgt := 40) dX1_area_34 (by decide) (fun c34 => ?_) (fun c34 => ?_)
          · rw [c34] at h0
            refine g_ic5_n dX1_area_40 ?_
            refine g_goto (tgt := 19) dX1_area_43 (by decide) ?_
            exact h0
          · rw [c34] at h0
            refine g_ic4_n dX1_area_37 ?_
            refine g_ic5_n dX1_area_40 ?_
            refine g_goto (tgt := 19) dX1_area_43 (by decide) ?_
            exact h0
    refine g_iconst (v := nI 0) dX1_area_13 rfl ?_
    refine g_is4 dX1_area_14 ?_
    refine g_iconst (v := nI 0) dX1_area_16 rfl ?_
    refine g_is5 dX1_area_17 ?_
    exact loop 257 0 (by omega) (by omega)
  · refine g_bipush (v := -2) dX1_area_10 rfl ?_
    exact g_iret dX1_area_12 (⟨(if_neg (by rw [c7]; decide)).symm, hR⟩)
theorem m1_outline (hR : R1 c q σ) (how la lb : Int32) : C1_outline 2 l D ad kd [.int how, .int la, .int lb] σ (fun r u => r = cmbR sOutl c q how la lb ∧ R1 c q u) := by
  refine Con.of (lv := [some (.ref (ad 0)), some (.int how), some (.int la), some (.int lb), none, none, none]) (by decide) rfl (Nat.le_of_ble_eq_true rfl) (by simp [Value.category]) (Nat.le_of_ble_eq_true rfl) rfl (fun sz => ?_)
  refine g_al0 dX1_outline_0 ?_
  refine g_il1 dX1_outline_1 ?_
  refine g_il2 dX1_outline_2 ?_
  refine g_il3 dX1_outline_3 ?_
  refine k1_37 dX1_outline_4 (m1_combine hR how la lb) (by decide) (Nat.le_of_ble_eq_true rfl) ?_
  rintro r u ⟨rfl, hR, hS⟩
  refine g_if_ne_b (tgt := 13) dX1_outline_7 (by decide) (fun c7 => ?_) (fun c7 => ?_)
  · have hS := hS c7
    obtain ⟨c71, c72⟩ := Bool.and_eq_true_iff.mp c7
    obtain ⟨c73, c74⟩ := Bool.and_eq_true_iff.mp c72
    obtain ⟨h, hh, rfl⟩ := lay_n c71
    obtain ⟨a, ha, rfl⟩ := lay_n c73
    obtain ⟨b, hb, rfl⟩ := lay_n c74
    rw [cmbR_ok hh ha hb]
    rw [nI_clamp (by omega), nI_clamp (by omega), nI_clamp (by omega)] at hS
    have gj : ∀ i j, 16 ≤ j → gg c q h a b i j = false := fun i j hj => gg_j hR.1 ha hb h i hj
    have gi : ∀ i j, 16 ≤ i → gg c q h a b i j = false := fun i j hi => gg_i hR.1 ha hb h hi j
    generalize gg c q h a b = g at hS gj gi ⊢
    have outer : ∀ (d j : Nat) (w6 : Option Value), 16 - j < d → j ≤ 16 → J1_outline 2 l D ad kd [.int (nI h), .int (nI a), .int (nI b)] σ sz (fun r u => r = nI (sOutl g) ∧ R1 c q u) u 19 [some (.ref (ad 0)), some (.int (nI h)), some (.int (nI a)), some (.int (nI b)), some (.int (nI (sm (fun j => sm (fun i => cel4 g i j) 16) j))), some (.int (nI j)), w6] [] := by
      intro d
      induction d with
      | zero => intro j w6 z; omega
      | succ d ih =>
        intro j w6 hd hj
        refine g_il5 dX1_outline_19 ?_
        refine g_bipush (v := nI 16) dX1_outline_21 rfl ?_
        refine g_icmp_ge_n (tgt := 123) dX1_outline_23 (by decide) (by omega) (by omega) (fun c23 => ?_) (fun c23 => ?_)
        · have e : j = 16 := by omega
          subst e
          refine g_il4 dX1_outline_123 ?_
          exact g_iret dX1_outline_125 (⟨congrArg nI (outl_eq gi gj), hR⟩)
        · have inner : ∀ (d2 i : Nat), 16 - i < d2 → i ≤ 16 → J1_outline 2 l D ad kd [.int (nI h), .int (nI a), .int (nI b)] σ sz (fun r u => r = nI (sOutl g) ∧ R1 c q u) u 29 [some (.ref (ad 0)), some (.int (nI h)), some (.int (nI a)), some (.int (nI b)), some (.int (nI (sm (fun j => sm (fun i => cel4 g i j) 16) j + sm (fun i => cel4 g i j) i))), some (.int (nI j)), some (.int (nI i))] [] := by
            intro d2
            induction d2 with
            | zero => intro i z; omega
            | succ d2 ih2 =>
              intro i hd2 hi
              refine g_il6 dX1_outline_29 ?_
              refine g_bipush (v := nI 16) dX1_outline_31 rfl ?_
              refine g_icmp_ge_n (tgt := 117) dX1_outline_33 (by decide) (by omega) (by omega) (fun c33 => ?_) (fun c33 => ?_)
              · have e : i = 16 := by omega
                subst e
                refine g_ic5_n dX1_outline_117 ?_
                refine g_goto (tgt := 19) dX1_outline_120 (by decide) ?_
                exact ih (j + 1) _ (by omega) (by omega)
              · have e111 : ∀ T : Nat, T = sm (fun j => sm (fun i => cel4 g i j) 16) j + sm (fun i => cel4 g i j) i + cel4 g i j → J1_outline 2 l D ad kd [.int (nI h), .int (nI a), .int (nI b)] σ sz (fun r u => r = nI (sOutl g) ∧ R1 c q u) u 111 [some (.ref (ad 0)), some (.int (nI h)), some (.int (nI a)), some (.int (nI b)), some (.int (nI T)), some (.int (nI j)), some (.int (nI i))] [] := by
                  intro T hT
                  refine g_ic6_n dX1_outline_111 ?_
                  refine g_goto (tgt := 29) dX1_outline_114 (by decide) ?_
                  rw [hT, Nat.add_assoc]
                  exact ih2 (i + 1) (by omega) (by omega)
                generalize sm (fun j => sm (fun i => cel4 g i j) 16) j + sm (fun i => cel4 g i j) i = B at e111 ⊢
                refine g_al0 dX1_outline_36 ?_
                refine g_il6 dX1_outline_37 ?_
                refine g_il5 dX1_outline_39 ?_
                refine k1_40 dX1_outline_41 (m1_in hS _ _) (by decide) (Nat.le_of_ble_eq_true rfl) ?_
                rintro r u2 ⟨hu, rfl⟩
                rw [hu, inz_nn gi gj (by omega) (by omega)]
                clear hu
                refine g_if_eq_b (tgt := 111) dX1_outline_44 (by decide) (fun c44 => ?_) (fun c44 => ?_)
                · exact e111 B (by unfold cel4; rw [c44]; rfl)
                · have e95 : ∀ T : Nat, T + tn (!g i (j + 1)) = B + cel4 g i j → J1_outline 2 l D ad kd [.int (nI h), .int (nI a), .int (nI b)] σ sz (fun r u => r = nI (sOutl g) ∧ R1 c q u) u 95 [some (.ref (ad 0)), some (.int (nI h)), some (.int (nI a)), some (.int (nI b)), some (.int (nI T)), some (.int (nI j)), some (.int (nI i))] [] := by
                    intro T hT
                    refine g_al0 dX1_outline_95 ?_
                    refine g_il6 dX1_outline_96 ?_
                    refine g_il5 dX1_outline_98 ?_
                    refine g_iconst (v := nI 1) dX1_outline_100 rfl ?_
                    refine g_iadd_n dX1_outline_101 ?_
                    refine k1_40 dX1_outline_102 (m1_in hS _ _) (by decide) (Nat.le_of_ble_eq_true rfl) ?_
                    rintro r u2 ⟨hu, rfl⟩
                    rw [hu, inz_nn gi gj (by omega) (by omega)]
                    clear hu
                    refine g_if_ne_b (tgt := 111) dX1_outline_105 (by decide) (fun c105 => ?_) (fun c105 => ?_)
                    · exact e111 T (by rw [← hT, c105]; rfl)
                    · refine g_ic4_n dX1_outline_108 ?_
                      exact e111 (T + 1) (by rw [← hT, c105]; rfl)
                  have e79 : ∀ T : Nat, T + tn (!pv (g i) j) + tn (!g i (j + 1)) = B + cel4 g i j → J1_outline 2 l D ad kd [.int (nI h), .int (nI a), .int (nI b)] σ sz (fun r u => r = nI (sOutl g) ∧ R1 c q u) u 79 [some (.ref (ad 0)), some (.int (nI h)), some (.int (nI a)), some (.int (nI b)), some (.int (nI T)), some (.int (nI j)), some (.int (nI i))] [] := by
                    intro T hT
                    refine g_al0 dX1_outline_79 ?_
                    refine g_il6 dX1_outline_80 ?_
                    refine g_il5 dX1_outline_82 ?_
                    refine g_iconst (v := nI 1) dX1_outline_84 rfl ?_
                    refine g_isub dX1_outline_85 ?_
                    refine k1_40 dX1_outline_86 (m1_in hS _ _) (by decide) (Nat.le_of_ble_eq_true rfl) ?_
                    rintro r u2 ⟨hu, rfl⟩
                    rw [hu, inz_np gi gj (by omega) (by omega)]
                    clear hu
                    refine g_if_ne_b (tgt := 95) dX1_outline_89 (by decide) (fun c89 => ?_) (fun c89 => ?_)
                    · exact e95 T (by rw [← hT, c89]; rfl)
                    · refine g_ic4_n dX1_outline_92 ?_
                      exact e95 (T + 1) (by rw [← hT, c89]; rfl)
                  have e63 : ∀ T : Nat, T + tn (!g (i + 1) j) + tn (!pv (g i) j) + tn (!g i (j + 1)) = B + cel4 g i j → J1_outline 2 l D ad kd [.int (nI h), .int (nI a), .int (nI b)] σ sz (fun r u => r = nI (sOutl g) ∧ R1 c q u) u 63 [some (.ref (ad 0)), some (.int (nI h)), some (.int (nI a)), some (.int (nI b)), some (.int (nI T)), some (.int (nI j)), some (.int (nI i))] [] := by
                    intro T hT
                    refine g_al0 dX1_outline_63 ?_
                    refine g_il6 dX1_outline_64 ?_
                    refine g_iconst (v := nI 1) dX1_outline_66 rfl ?_
                    refine g_iadd_n dX1_outline_67 ?_
                    refine g_il5 dX1_outline_68 ?_
                    refine k1_40 dX1_outline_70 (m1_in hS _ _) (by decide) (Nat.le_of_ble_eq_true rfl) ?_
                    rintro r u2 ⟨hu, rfl⟩
                    rw [hu, inz_nn gi gj (by omega) (by omega)]
                    clear hu
                    refine g_if_ne_b (tgt := 79) dX1_outline_73 (by decide) (fun c73 => ?_) (fun c73 => ?_)
                    · exact e79 T (by rw [← hT, c73]; rfl)
                    · refine g_ic4_n dX1_outline_76 ?_
                      exact e79 (T + 1) (by rw [← hT, c73]; rfl)
                  have hB : B + tn (!pvx g i j) + tn (!g (i + 1) j) + tn (!pv (g i) j) + tn (!g i (j + 1)) = B + cel4 g i j := by
                    unfold cel4
                    rw [c44]
                    simp only [Bool.true_and]
                    omega
                  refine g_al0 dX1_outline_47 ?_
                  refine g_il6 dX1_outline_48 ?_
                  refine g_iconst (v := nI 1) dX1_outline_50 rfl ?_
                  refine g_isub dX1_outline_51 ?_
                  refine g_il5 dX1_outline_52 ?_
                  refine k1_40 dX1_outline_54 (m1_in hS _ _) (by decide) (Nat.le_of_ble_eq_true rfl) ?_
                  rintro r u2 ⟨hu, rfl⟩
                  rw [hu, inz_pn gi gj (by omega) (by omega)]
                  clear hu
                  refine g_if_ne_b (tgt := 63) dX1_outline_57 (by decide) (fun c57 => ?_) (fun c57 => ?_)
                  · exact e63 B (by rw [← hB, c57]; rfl)
                  · refine g_ic4_n dX1_outline_60 ?_
                    exact e63 (B + 1) (by rw [← hB, c57]; rfl)
          refine g_iconst (v := nI 0) dX1_outline_26 rfl ?_
          refine g_is6 dX1_outline_27 ?_
          exact inner 17 0 (by omega) (by omega)
    refine g_iconst (v := nI 0) dX1_outline_13 rfl ?_
    refine g_is4 dX1_outline_14 ?_
    refine g_iconst (v := nI 0) dX1_outline_16 rfl ?_
    refine g_is5 dX1_outline_17 ?_
    exact outer 17 0 none (by omega) (by omega)
  · refine g_bipush (v := -2) dX1_outline_10 rfl ?_
    exact g_iret dX1_outline_12 (⟨(if_neg (by rw [c7]; decide)).symm, hR⟩)
theorem m1_corners (hR : R1 c q σ) (how la lb : Int32) : C1_corners 2 l D ad kd [.int how, .int la, .int lb] σ (fun r u => r = cmbR sCorn c q how la lb ∧ R1 c q u) := by
  refine Con.of (lv := [some (.ref (ad 0)), some (.int how), some (.int la), some (.int lb), none, none, none, none, none, none, none]) (by decide) rfl (Nat.le_of_ble_eq_true rfl) (by simp [Value.category]) (Nat.le_of_ble_eq_true rfl) rfl (fun sz => ?_)
  refine g_al0 dX1_corners_0 ?_
  refine g_il1 dX1_corners_1 ?_
  refine g_il2 dX1_corners_2 ?_
  refine g_il3 dX1_corners_3 ?_
  refine k1_37 dX1_corners_4 (m1_combine hR how la lb) (by decide) (Nat.le_of_ble_eq_true rfl) ?_
  rintro r u ⟨rfl, hR, hS⟩
  refine g_if_ne_b (tgt := 13) dX1_corners_7 (by decide) (fun c7 => ?_) (fun c7 => ?_)
  · have hS := hS c7
    obtain ⟨c71, c72⟩ := Bool.and_eq_true_iff.mp c7
    obtain ⟨c73, c74⟩ := Bool.and_eq_true_iff.mp c72
    obtain ⟨h, hh, rfl⟩ := lay_n c71
    obtain ⟨a, ha, rfl⟩ := lay_n c73
    obtain ⟨b, hb, rfl⟩ := lay_n c74
    rw [cmbR_ok hh ha hb]
    rw [nI_clamp (by omega), nI_clamp (by omega), nI_clamp (by omega)] at hS
    have gj : ∀ i j, 16 ≤ j → gg c q h a b i j = false := fun i j hj => gg_j hR.1 ha hb h i hj
    have gi : ∀ i j, 16 ≤ i → gg c q h a b i j = false := fun i j hi => gg_i hR.1 ha hb h hi j
    generalize gg c q h a b = g at hS gj gi ⊢
    have outer : ∀ (d y : Nat) (w6 w7 w8 w9 w10 : Option Value), 17 - y < d → y ≤ 17 → J1_corners 2 l D ad kd [.int (nI h), .int (nI a), .int (nI b)] σ sz (fun r u => r = nI (sCorn g) ∧ R1 c q u) u 19 [some (.ref (ad 0)), some (.int (nI h)), some (.int (nI a)), some (.int (nI b)), some (.int (nI (sm (fun y => sm (fun x => tn ((pvx g x y ^^ g x y) ^^ (pv (pvx g x) y ^^ pv (g x) y))) 17) y))), some (.int (nI y)), w6, w7, w8, w9, w10] [] := by
      intro d
      induction d with
      | zero => intro y w6 w7 w8 w9 w10 z; omega
      | succ d ih =>
        intro y w6 w7 w8 w9 w10 hd hy
        refine g_il5 dX1_corners_19 ?_
        refine g_bipush (v := nI 16) dX1_corners_21 rfl ?_
        refine g_icmp_gt_n (tgt := 185) dX1_corners_23 (by decide) (by omega) (by omega) (fun c23 => ?_) (fun c23 => ?_)
        · have e : y = 17 := by omega
          subst e
          refine g_il4 dX1_corners_185 ?_
          exact g_iret dX1_corners_187 (⟨congrArg nI (corn_eq gj), hR⟩)
        · have inner : ∀ (d2 x : Nat) (w7 w8 w9 w10 : Option Value), 17 - x < d2 → x ≤ 17 → J1_corners 2 l D ad kd [.int (nI h), .int (nI a), .int (nI b)] σ sz (fun r u => r = nI (sCorn g) ∧ R1 c q u) u 29 [some (.ref (ad 0)), some (.int (nI h)), some (.int (nI a)), some (.int (nI b)), some (.int (nI (sm (fun y => sm (fun x => tn ((pvx g x y ^^ g x y) ^^ (pv (pvx g x) y ^^ pv (g x) y))) 17) y + sm (fun x => tn ((pvx g x y ^^ g x y) ^^ (pv (pvx g x) y ^^ pv (g x) y))) x))), some (.int (nI y)), some (.int (nI x)), w7, w8, w9, w10] [] := by
            intro d2
            induction d2 with
            | zero => intro x w7 w8 w9 w10 z; omega
            | succ d2 ih2 =>
              intro x w7 w8 w9 w10 hd2 hx
              refine g_il6 dX1_corners_29 ?_
              refine g_bipush (v := nI 16) dX1_corners_31 rfl ?_
              refine g_icmp_gt_n (tgt := 179) dX1_corners_33 (by decide) (by omega) (by omega) (fun c33 => ?_) (fun c33 => ?_)
              · have e : x = 17 := by omega
                subst e
                refine g_ic5_n dX1_corners_179 ?_
                refine g_goto (tgt := 19) dX1_corners_182 (by decide) ?_
                exact ih (y + 1) _ _ _ _ _ (by omega) (by omega)
              · have e173 : ∀ (T : Nat) (w7 w8 w9 w10 : Option Value), T = sm (fun y => sm (fun x => tn ((pvx g x y ^^ g x y) ^^ (pv (pvx g x) y ^^ pv (g x) y))) 17) y + sm (fun x => tn ((pvx g x y ^^ g x y) ^^ (pv (pvx g x) y ^^ pv (g x) y))) x + tn ((pvx g x y ^^ g x y) ^^ (pv (pvx g x) y ^^ pv (g x) y)) → J1_corners 2 l D ad kd [.int (nI h), .int (nI a), .int (nI b)] σ sz (fun r u => r = nI (sCorn g) ∧ R1 c q u) u 173 [some (.ref (ad 0)), some (.int (nI h)), some (.int (nI a)), some (.int (nI b)), some (.int (nI T)), some (.int (nI y)), some (.int (nI x)), w7, w8, w9, w10] [] := by
                  intro T w7 w8 w9 w10 hT
                  refine g_ic6_n dX1_corners_173 ?_
                  refine g_goto (tgt := 29) dX1_corners_176 (by decide) ?_
                  rw [hT, Nat.add_assoc]
                  exact ih2 (x + 1) _ _ _ _ (by omega) (by omega)
                generalize sm (fun y => sm (fun x => tn ((pvx g x y ^^ g x y) ^^ (pv (pvx g x) y ^^ pv (g x) y))) 17) y + sm (fun x => tn ((pvx g x y ^^ g x y) ^^ (pv (pvx g x) y ^^ pv (g x) y))) x = B at e173 ⊢
                have k154 : J1_corners 2 l D ad kd [.int (nI h), .int (nI a), .int (nI b)] σ sz (fun r u => r = nI (sCorn g) ∧ R1 c q u) u 154 [some (.ref (ad 0)), some (.int (nI h)), some (.int (nI a)), some (.int (nI b)), some (.int (nI B)), some (.int (nI y)), some (.int (nI x)), some (.int (bI (pvx g x y ^^ g x y))), some (.int (bI (pv (pvx g x) y ^^ pv (g x) y))), some (.int (bI (pvx g x y ^^ pv (pvx g x) y))), w10] [.int (bI (g x y ^^ pv (g x) y))] := by
                  refine g_is10 dX1_corners_154 ?_
                  refine g_il7 dX1_corners_156 ?_
                  refine g_il8 dX1_corners_158 ?_
                  refine g_icmp_eq (tgt := 173) dX1_corners_160 (by decide) (fun c160 => ?_) (fun c160 => ?_)
                  · refine e173 B _ _ _ _ ?_
                    rw [bI_inj.mp c160, Bool.xor_self]
                    rfl
                  · refine g_il9 dX1_corners_163 ?_
                    refine g_il10 dX1_corners_165 ?_
                    refine g_icmp_eq (tgt := 173) dX1_corners_167 (by decide) (fun c167 => ?_) (fun c167 => ?_)
                    · refine absurd ?_ c160
                      have z := bI_inj.mp c167
                      rw [bI_inj]
                      revert z
                      cases pvx g x y <;> cases g x y <;> cases pv (pvx g x) y <;> cases pv (g x) y <;> simp
                    · refine g_ic4_n dX1_corners_170 ?_
                      refine e173 (B + 1) _ _ _ _ ?_
                      have z : ¬ (pvx g x y ^^ g x y) = (pv (pvx g x) y ^^ pv (g x) y) := fun z => c160 (by rw [z])
                      revert z
                      cases pvx g x y <;> cases g x y <;> cases pv (pvx g x) y <;> cases pv (g x) y <;> simp [tn]
                have k126 : J1_corners 2 l D ad kd [.int (nI h), .int (nI a), .int (nI b)] σ sz (fun r u => r = nI (sCorn g) ∧ R1 c q u) u 126 [some (.ref (ad 0)), some (.int (nI h)), some (.int (nI a)), some (.int (nI b)), some (.int (nI B)), some (.int (nI y)), some (.int (nI x)), some (.int (bI (pvx g x y ^^ g x y))), some (.int (bI (pv (pvx g x) y ^^ pv (g x) y))), w9, w10] [.int (bI (pvx g x y ^^ pv (pvx g x) y))] := by
                  refine g_is9 dX1_corners_126 ?_
                  refine g_al0 dX1_corners_128 ?_
                  refine g_il6 dX1_corners_129 ?_
                  refine g_il5 dX1_corners_131 ?_
                  refine k1_40 dX1_corners_133 (m1_in hS _ _) (by decide) (Nat.le_of_ble_eq_true rfl) ?_
                  rintro r u2 ⟨hu, rfl⟩
                  rw [hu, inz_nn gi gj (by omega) (by omega)]
                  clear hu
                  refine g_al0 dX1_corners_136 ?_
                  refine g_il6 dX1_corners_137 ?_
                  refine g_il5 dX1_corners_139 ?_
                  refine g_iconst (v := nI 1) dX1_corners_141 rfl ?_
                  refine g_isub dX1_corners_142 ?_
                  refine k1_40 dX1_corners_143 (m1_in hS _ _) (by decide) (Nat.le_of_ble_eq_true rfl) ?_
                  rintro r u2 ⟨hu, rfl⟩
                  rw [hu, inz_np gi gj (by omega) (by omega)]
                  clear hu
                  refine g_icmp_eq (tgt := 153) dX1_corners_146 (by decide) (fun c146 => ?_) (fun c146 => ?_)
                  · refine g_iconst (v := nI 0) dX1_corners_153 rfl ?_
                    refine g_top (bx_e c146) ?_
                    exact k154
                  · refine g_iconst (v := nI 1) dX1_corners_149 rfl ?_
                    refine g_top (bx_n c146) ?_
                    refine g_goto (tgt := 154) dX1_corners_150 (by decide) ?_
                    exact k154

                have k94 : J1_corners 2 l D ad kd [.int (nI h), .int (nI a), .int (nI b)] σ sz (fun r u => r = nI (sCorn g) ∧ R1 c q u) u 94 [some (.ref (ad 0)), some (.int (nI h)), some (.int (nI a)), some (.int (nI b)), some (.int (nI B)), some (.int (nI y)), some (.int (nI x)), some (.int (bI (pvx g x y ^^ g x y))), w8, w9, w10] [.int (bI (pv (pvx g x) y ^^ pv (g x) y))] := by
                  refine g_is8 dX1_corners_94 ?_
                  refine g_al0 dX1_corners_96 ?_
                  refine g_il6 dX1_corners_97 ?_
                  refine g_iconst (v := nI 1) dX1_corners_99 rfl ?_
                  refine g_isub dX1_corners_100 ?_
                  refine g_il5 dX1_corners_101 ?_
                  refine k1_40 dX1_corners_103 (m1_in hS _ _) (by decide) (Nat.le_of_ble_eq_true rfl) ?_
                  rintro r u2 ⟨hu, rfl⟩
                  rw [hu, inz_pn gi gj (by omega) (by omega)]
                  clear hu
                  refine g_al0 dX1_corners_106 ?_
                  refine g_il6 dX1_corners_107 ?_
                  refine g_iconst (v := nI 1) dX1_corners_109 rfl ?_
                  refine g_isub dX1_corners_110 ?_
                  refine g_il5 dX1_corners_111 ?_
                  refine g_iconst (v := nI 1) dX1_corners_113 rfl ?_
                  refine g_isub dX1_corners_114 ?_
                  refine k1_40 dX1_corners_115 (m1_in hS _ _) (by decide) (Nat.le_of_ble_eq_true rfl) ?_
                  rintro r u2 ⟨hu, rfl⟩
                  rw [hu, inz_pp gi gj (by omega) (by omega)]
                  clear hu
                  refine g_icmp_eq (tgt := 125) dX1_corners_118 (by decide) (fun c118 => ?_) (fun c118 => ?_)
                  · refine g_iconst (v := nI 0) dX1_corners_125 rfl ?_
                    refine g_top (bx_e c118) ?_
                    exact k126
                  · refine g_iconst (v := nI 1) dX1_corners_121 rfl ?_
                    refine g_top (bx_n c118) ?_
                    refine g_goto (tgt := 126) dX1_corners_122 (by decide) ?_
                    exact k126

                have k62 : J1_corners 2 l D ad kd [.int (nI h), .int (nI a), .int (nI b)] σ sz (fun r u => r = nI (sCorn g) ∧ R1 c q u) u 62 [some (.ref (ad 0)), some (.int (nI h)), some (.int (nI a)), some (.int (nI b)), some (.int (nI B)), some (.int (nI y)), some (.int (nI x)), w7, w8, w9, w10] [.int (bI (pvx g x y ^^ g x y))] := by
                  refine g_is7 dX1_corners_62 ?_
                  refine g_al0 dX1_corners_64 ?_
                  refine g_il6 dX1_corners_65 ?_
                  refine g_iconst (v := nI 1) dX1_corners_67 rfl ?_
                  refine g_isub dX1_corners_68 ?_
                  refine g_il5 dX1_corners_69 ?_
                  refine g_iconst (v := nI 1) dX1_corners_71 rfl ?_
                  refine g_isub dX1_corners_72 ?_
                  refine k1_40 dX1_corners_73 (m1_in hS _ _) (by decide) (Nat.le_of_ble_eq_true rfl) ?_
                  rintro r u2 ⟨hu, rfl⟩
                  rw [hu, inz_pp gi gj (by omega) (by omega)]
                  clear hu
                  refine g_al0 dX1_corners_76 ?_
                  refine g_il6 dX1_corners_77 ?_
                  refine g_il5 dX1_corners_79 ?_
                  refine g_iconst (v := nI 1) dX1_corners_81 rfl ?_
                  refine g_isub dX1_corners_82 ?_
                  refine k1_40 dX1_corners_83 (m1_in hS _ _) (by decide) (Nat.le_of_ble_eq_true rfl) ?_
                  rintro r u2 ⟨hu, rfl⟩
                  rw [hu, inz_np gi gj (by omega) (by omega)]
                  clear hu
                  refine g_icmp_eq (tgt := 93) dX1_corners_86 (by decide) (fun c86 => ?_) (fun c86 => ?_)
                  · refine g_iconst (v := nI 0) dX1_corners_93 rfl ?_
                    refine g_top (bx_e c86) ?_
                    exact k94
                  · refine g_iconst (v := nI 1) dX1_corners_89 rfl ?_
                    refine g_top (bx_n c86) ?_
                    refine g_goto (tgt := 94) dX1_corners_90 (by decide) ?_
                    exact k94

                refine g_al0 dX1_corners_36 ?_
                refine g_il6 dX1_corners_37 ?_
                refine g_iconst (v := nI 1) dX1_corners_39 rfl ?_
                refine g_isub dX1_corners_40 ?_
                refine g_il5 dX1_corners_41 ?_
                refine k1_40 dX1_corners_43 (m1_in hS _ _) (by decide) (Nat.le_of_ble_eq_true rfl) ?_
                rintro r u2 ⟨hu, rfl⟩
                rw [hu, inz_pn gi gj (by omega) (by omega)]
                clear hu
                refine g_al0 dX1_corners_46 ?_
                refine g_il6 dX1_corners_47 ?_
                refine g_il5 dX1_corners_49 ?_
                refine k1_40 dX1_corners_51 (m1_in hS _ _) (by decide) (Nat.le_of_ble_eq_true rfl) ?_
                rintro r u2 ⟨hu, rfl⟩
                rw [hu, inz_nn gi gj (by omega) (by omega)]
                clear hu
                refine g_icmp_eq (tgt := 61) dX1_corners_54 (by decide) (fun c54 => ?_) (fun c54 => ?_)
                · refine g_iconst (v := nI 0) dX1_corners_61 rfl ?_
                  refine g_top (bx_e c54) ?_
                  exact k62
                · refine g_iconst (v := nI 1) dX1_corners_57 rfl ?_
                  refine g_top (bx_n c54) ?_
                  refine g_goto (tgt := 62) dX1_corners_58 (by decide) ?_
                  exact k62

          refine g_iconst (v := nI 0) dX1_corners_26 rfl ?_
          refine g_is6 dX1_corners_27 ?_
          exact inner 18 0 _ _ _ _ (by omega) (by omega)
    refine g_iconst (v := nI 0) dX1_corners_13 rfl ?_
    refine g_is4 dX1_corners_14 ?_
    refine g_iconst (v := nI 0) dX1_corners_16 rfl ?_
    refine g_is5 dX1_corners_17 ?_
    exact outer 18 0 none none none none none (by omega) (by omega)
  · refine g_bipush (v := -2) dX1_corners_10 rfl ?_
    exact g_iret dX1_corners_12 (⟨(if_neg (by rw [c7]; decide)).symm, hR⟩)
end AOC1
end
section
set_option maxRecDepth 100000
/-! DrcScanModel: run, thin, between, gaps -/
theorem fc_f {g : Nat → Nat → Bool} {i j : Nat} (h : g i j = false) : fc false g i j = false := h
theorem fc_g {g : Nat → Nat → Bool} {i j : Nat} (h : g i j = true) : fc true g i j = false := by
  show ((decide (i < 16) && decide (j < 16)) && !g i j) = false
  rw [h, Bool.not_true, Bool.and_false]
theorem mrk_no {inn : Bool} {g : Nat → Nat → Bool} {w i j : Nat} (h : fc inn g i j = false) : mrk inn g w i j = false := by
  unfold mrk
  rw [short_no h, short_no (f := fun x => fc inn g x j) h]
  rfl
theorem mrk_ff {g : Nat → Nat → Bool} {w i j : Nat} (h : fc false g i j = true) : mrk false g w i j = (decide (rl (fc false g i) j + rr (fc false g i) 16 j - 1 < w) || decide (rl (fun x => fc false g x j) i + rr (fun x => fc false g x j) 16 i - 1 < w)) := by
  unfold mrk short
  simp only [h, Bool.true_and, Bool.not_false, Bool.true_or, Bool.and_true]
section BTW
variable {g : Nat → Nat → Bool}
theorem short_t {f : Nat → Bool} {w i : Nat} (h : f i = true) : short f w true i = (decide (rl f i + rr f 16 i - 1 < w) && (decide (rl f i ≤ i) && decide (i + rr f 16 i ≤ 15))) := by
  unfold short
  rw [h]
  rfl
theorem fc_t {i j : Nat} (hi : i < 16) (hj : j < 16) (h : fc true g i j = false) : g i j = true := by
  rw [fc_in hi hj] at h
  simpa using h
def btw (g : Nat → Nat → Bool) (x y dx dy : Int32) (s : Nat) : Bool := (inz g (x + nI (rr (fun t => sok g false (ps x dx t) (ps y dy t)) 16 0) * dx) (y + nI (rr (fun t => sok g false (ps x dx t) (ps y dy t)) 16 0) * dy) && inz g (x - nI (rr (fun t => sok g false (ps x (-dx) t) (ps y (-dy) t)) 16 0) * dx) (y - nI (rr (fun t => sok g false (ps x (-dx) t) (ps y (-dy) t)) 16 0) * dy)) && decide (rr (fun t => sok g false (ps x dx t) (ps y dy t)) 16 0 + rr (fun t => sok g false (ps x (-dx) t) (ps y (-dy) t)) 16 0 - 1 < s)
theorem mul_1 (n : Nat) : nI n * nI 1 = nI n := by rw [pk_mul, Nat.mul_one]
theorem mul_0 (n : Nat) : nI n * nI 0 = nI 0 := by rw [pk_mul, Nat.mul_zero]
theorem add_0' (n : Nat) : nI n + nI 0 = nI n := nI_add n 0
theorem sub_0' (n : Nat) : nI n - nI 0 = nI n := pk_sub (Nat.zero_le n)
theorem btw_h (gi : ∀ i j, 16 ≤ i → g i j = false) (gj : ∀ i j, 16 ≤ j → g i j = false) {i j s : Nat} (hi : i < 16) (hj : j < 16) (hf : fc true g i j = true) : btw g (nI i) (nI j) (nI 1) (nI 0) s = short (fun x => fc true g x j) s true i := by
  have e1 : rr (fun t => sok g false (ps (nI i) (nI 1) t) (ps (nI j) (nI 0) t)) 16 0 = rr (fun x => fc true g x j) 16 i := run_r gi gj hi hj
  have e2 : rr (fun t => sok g false (ps (nI i) (-(nI 1)) t) (ps (nI j) (-(nI 0)) t)) 16 0 = rl (fun x => fc true g x j) i := run_l gi gj hi hj
  unfold btw
  rw [short_t (f := fun x => fc true g x j) hf, e1, e2]
  have a1 := rr_le (fun x => fc true g x j) 16 i
  have a2 := rl_le (fun x => fc true g x j) i
  have b1 := rr_end (fun x => fc true g x j) 16 i
  have b2 := rl_end (fun x => fc true g x j) i
  generalize rr (fun x => fc true g x j) 16 i = p at a1 b1 ⊢
  generalize rl (fun x => fc true g x j) i = r at a2 b2 ⊢
  rw [mul_1, mul_0, mul_1, mul_0, add_0', sub_0', nI_add]
  have f1 : inz g (nI (i + p)) (nI j) = decide (i + p ≤ 15) := by
    rw [inz_nn gi gj (by omega) (by omega)]
    by_cases z : i + p ≤ 15
    · rw [decide_eq_true z]
      exact fc_t (by omega) hj (b1.resolve_left (by omega))
    · rw [decide_eq_false z]
      exact gi _ _ (by omega)
  have f2 : inz g (nI i - nI r) (nI j) = decide (r ≤ i) := by
    by_cases z : r ≤ i
    · rw [decide_eq_true z, pk_sub z, inz_nn gi gj (by omega) (by omega)]
      exact fc_t (by omega) hj (b2.resolve_left (by omega))
    · rw [decide_eq_false z]
      unfold inz
      rw [rng_f1 (pk_sneg (by omega) (by omega))]
      rfl
  rw [f1, f2, show p + r - 1 = r + p - 1 by omega]
  generalize decide (i + p ≤ 15) = z1
  generalize decide (r ≤ i) = z2
  generalize decide (r + p - 1 < s) = z3
  cases z1 <;> cases z2 <;> cases z3 <;> rfl
theorem btw_v (gi : ∀ i j, 16 ≤ i → g i j = false) (gj : ∀ i j, 16 ≤ j → g i j = false) {i j s : Nat} (hi : i < 16) (hj : j < 16) (hf : fc true g i j = true) : btw g (nI i) (nI j) (nI 0) (nI 1) s = short (fc true g i) s true j := by
  have e1 : rr (fun t => sok g false (ps (nI i) (nI 0) t) (ps (nI j) (nI 1) t)) 16 0 = rr (fc true g i) 16 j := run_u gi gj hi hj
  have e2 : rr (fun t => sok g false (ps (nI i) (-(nI 0)) t) (ps (nI j) (-(nI 1)) t)) 16 0 = rl (fc true g i) j := run_d gi gj hi hj
  unfold btw
  rw [short_t (f := fc true g i) hf, e1, e2]
  have a1 := rr_le (fc true g i) 16 j
  have a2 := rl_le (fc true g i) j
  have b1 := rr_end (fc true g i) 16 j
  have b2 := rl_end (fc true g i) j
  generalize rr (fc true g i) 16 j = p at a1 b1 ⊢
  generalize rl (fc true g i) j = r at a2 b2 ⊢
  rw [mul_0, mul_1, mul_0, mul_1, add_0', sub_0', nI_add]
  have f1 : inz g (nI i) (nI (j + p)) = decide (j + p ≤ 15) := by
    rw [inz_nn gi gj (by omega) (by omega)]
    by_cases z : j + p ≤ 15
    · rw [decide_eq_true z]
      exact fc_t hi (by omega) (b1.resolve_left (by omega))
    · rw [decide_eq_false z]
      exact gj _ _ (by omega)
  have f2 : inz g (nI i) (nI j - nI r) = decide (r ≤ j) := by
    by_cases z : r ≤ j
    · rw [decide_eq_true z, pk_sub z, inz_nn gi gj (by omega) (by omega)]
      exact fc_t hi (by omega) (b2.resolve_left (by omega))
    · rw [decide_eq_false z]
      unfold inz
      rw [rng_f1 (pk_sneg (by omega) (by omega)), Bool.false_and, Bool.and_false]
  rw [f1, f2, show p + r - 1 = r + p - 1 by omega]
  generalize decide (j + p ≤ 15) = z1
  generalize decide (r ≤ j) = z2
  generalize decide (r + p - 1 < s) = z3
  cases z1 <;> cases z2 <;> cases z3 <;> rfl
end BTW
section RUN1
variable {l : Launch} {D : va_G} {ad : Nat → Nat} {kd : Nat → ClassId} {σ : gS} {c : Nat → Nat} {q : Nat → Nat → Nat} {g : Nat → Nat → Bool}
theorem m1_run (hS : St1 g σ) (x y dx dy : Int32) (want : Bool) : C1_run 1 l D ad kd [.int x, .int y, .int dx, .int dy, .int (bI want)] σ (fun r u => u = σ ∧ r = nI (rr (fun t => sok g want (ps x dx t) (ps y dy t)) 16 0)) := by
  refine Con.of (lv := [some (.ref (ad 0)), some (.int x), some (.int y), some (.int dx), some (.int dy), some (.int (bI want)), none, none, none, none]) (by decide) rfl (Nat.le_of_ble_eq_true rfl) (by simp [Value.category]) (Nat.le_of_ble_eq_true rfl) rfl (fun sz => ?_)
  have loop : ∀ (d k : Nat), 16 - k < d → k ≤ 16 → (∀ t, t < k → sok g want (ps x dx t) (ps y dy t) = true) → J1_run 1 l D ad kd [.int x, .int y, .int dx, .int dy, .int (bI want)] σ sz (fun r u => u = σ ∧ r = nI (rr (fun t => sok g want (ps x dx t) (ps y dy t)) 16 0)) σ 12 [some (.ref (ad 0)), some (.int x), some (.int y), some (.int dx), some (.int dy), some (.int (bI want)), some (.int (nI k)), some (.int (ps x dx k)), some (.int (ps y dy k)), some (.int (nI k))] [] := by
    intro d
    induction d with
    | zero => intro k z; omega
    | succ d ih =>
      intro k hd hk hz
      have hrr : (k = 16 ∨ sok g want (ps x dx k) (ps y dy k) = false) → nI k = nI (rr (fun t => sok g want (ps x dx t) (ps y dy t)) 16 0) := by
        intro h
        rw [rr_of (f := fun t => sok g want (ps x dx t) (ps y dy t)) k 16 0 hk (fun t ht => by rw [Nat.zero_add]; exact hz t ht) (by rw [Nat.zero_add]; exact h)]
      have stop : sok g want (ps x dx k) (ps y dy k) = false → J1_run 1 l D ad kd [.int x, .int y, .int dx, .int dy, .int (bI want)] σ sz (fun r u => u = σ ∧ r = nI (rr (fun t => sok g want (ps x dx t) (ps y dy t)) 16 0)) σ 56 [some (.ref (ad 0)), some (.int x), some (.int y), some (.int dx), some (.int dy), some (.int (bI want)), some (.int (nI k)), some (.int (ps x dx k)), some (.int (ps y dy k)), some (.int (nI k))] [] := by
        intro h
        refine g_il6 dX1_run_56 ?_
        exact g_iret dX1_run_58 (⟨rfl, hrr (Or.inr h)⟩)
      refine g_il9 dX1_run_12 ?_
      refine g_bipush (v := nI 16) dX1_run_14 rfl ?_
      refine g_icmp_ge_n (tgt := 81) dX1_run_16 (by decide) (by omega) (by omega) (fun c16 => ?_) (fun c16 => ?_)
      · refine g_il6 dX1_run_81 ?_
        exact g_iret dX1_run_83 (⟨rfl, hrr (Or.inl (by omega))⟩)
      · refine g_il7 dX1_run_19 ?_
        refine g_if_lt (tgt := 56) dX1_run_21 (by decide) (fun c21 => ?_) (fun c21 => ?_)
        · exact stop (sok_nx c21)
        · refine g_il7 dX1_run_24 ?_
          refine g_bipush (v := nI 15) dX1_run_26 rfl ?_
          refine g_icmp_gt (tgt := 56) dX1_run_28 (by decide) (fun c28 => ?_) (fun c28 => ?_)
          · exact stop (by unfold sok; rw [rng_f2 c28]; rfl)
          · refine g_il8 dX1_run_31 ?_
            refine g_if_lt (tgt := 56) dX1_run_33 (by decide) (fun c33 => ?_) (fun c33 => ?_)
            · exact stop (sok_ny c33)
            · refine g_il8 dX1_run_36 ?_
              refine g_bipush (v := nI 15) dX1_run_38 rfl ?_
              refine g_icmp_gt (tgt := 56) dX1_run_40 (by decide) (fun c40 => ?_) (fun c40 => ?_)
              · exact stop (by unfold sok; rw [rng_f2 c40, Bool.and_false]; rfl)
              · refine g_al0 dX1_run_43 ?_
                refine g_il7 dX1_run_44 ?_
                refine g_il8 dX1_run_46 ?_
                refine k1_40 dX1_run_48 (m1_in hS _ _) (by decide) (Nat.le_of_ble_eq_true rfl) ?_
                rintro r u2 ⟨hu, rfl⟩
                rw [hu]
                clear hu
                refine g_il5 dX1_run_51 ?_
                refine g_icmp_eq (tgt := 59) dX1_run_53 (by decide) (fun c53 => ?_) (fun c53 => ?_)
                · refine g_ic6_n dX1_run_59 ?_
                  refine g_il7 dX1_run_62 ?_
                  refine g_il3 dX1_run_64 ?_
                  refine g_iadd dX1_run_65 ?_
                  refine g_is7 dX1_run_66 ?_
                  refine g_il8 dX1_run_68 ?_
                  refine g_il4 dX1_run_70 ?_
                  refine g_iadd dX1_run_72 ?_
                  refine g_is8 dX1_run_73 ?_
                  refine g_ic9_n dX1_run_75 ?_
                  refine g_goto (tgt := 12) dX1_run_78 (by decide) ?_
                  refine ih (k + 1) (by omega) (by omega) (fun t ht => ?_)
                  rcases Nat.lt_or_ge t k with z | z
                  · exact hz t z
                  · rw [show t = k by omega]
                    unfold sok
                    rw [rng_t c21 c28, rng_t c33 c40, bI_inj.mp c53, Bool.xor_self]
                    rfl
                · refine stop ?_
                  have h : ¬ inz g (ps x dx k) (ps y dy k) = want := fun e => c53 (by rw [e])
                  unfold sok
                  rw [rng_t c21 c28, rng_t c33 c40]
                  revert h
                  cases inz g (ps x dx k) (ps y dy k) <;> cases want <;> simp
  refine g_iconst (v := nI 0) dX1_run_0 rfl ?_
  refine g_is6 dX1_run_1 ?_
  refine g_il1 dX1_run_3 ?_
  refine g_is7 dX1_run_4 ?_
  refine g_il2 dX1_run_6 ?_
  refine g_is8 dX1_run_7 ?_
  refine g_iconst (v := nI 0) dX1_run_9 rfl ?_
  refine g_is9 dX1_run_10 ?_
  exact loop 17 0 (by omega) (by omega) (fun t ht => absurd ht (Nat.not_lt_zero t))
theorem m1_between (hS : St1 g σ) (x y dx dy : Int32) (s : Nat) (hs : s < 2 ^ 31) (h1 : 1 ≤ rr (fun t => sok g false (ps x dx t) (ps y dy t)) 16 0) : C1_between 2 l D ad kd [.int x, .int y, .int dx, .int dy, .int (nI s)] σ (fun r u => u = σ ∧ r = bI (btw g x y dx dy s)) := by
  refine Con.of (lv := [some (.ref (ad 0)), some (.int x), some (.int y), some (.int dx), some (.int dy), some (.int (nI s)), none, none]) (by decide) rfl (Nat.le_of_ble_eq_true rfl) (by simp [Value.category]) (Nat.le_of_ble_eq_true rfl) rfl (fun sz => ?_)
  refine g_al0 dX1_between_0 ?_
  refine g_il1 dX1_between_1 ?_
  refine g_il2 dX1_between_2 ?_
  refine g_il3 dX1_between_3 ?_
  refine g_il4 dX1_between_4 ?_
  refine g_iconst (v := nI 0) dX1_between_6 rfl ?_
  refine g_top (show nI 0 = bI false from rfl) ?_
  refine k1_44 dX1_between_7 (m1_run hS _ _ _ _ false) (by decide) (Nat.le_of_ble_eq_true rfl) ?_
  rintro r u2 ⟨hu, rfl⟩
  rw [hu]
  clear hu
  refine g_is6 dX1_between_10 ?_
  refine g_al0 dX1_between_12 ?_
  refine g_il1 dX1_between_13 ?_
  refine g_il2 dX1_between_14 ?_
  refine g_il3 dX1_between_15 ?_
  refine g_ineg dX1_between_16 ?_
  refine g_il4 dX1_between_17 ?_
  refine g_ineg dX1_between_19 ?_
  refine g_iconst (v := nI 0) dX1_between_20 rfl ?_
  refine g_top (show nI 0 = bI false from rfl) ?_
  refine k1_44 dX1_between_21 (m1_run hS _ _ _ _ false) (by decide) (Nat.le_of_ble_eq_true rfl) ?_
  rintro r u2 ⟨hu, rfl⟩
  rw [hu]
  clear hu
  have a1 := rr_le (fun t => sok g false (ps x dx t) (ps y dy t)) 16 0
  have a2 := rr_le (fun t => sok g false (ps x (-dx) t) (ps y (-dy) t)) 16 0
  unfold btw
  generalize rr (fun t => sok g false (ps x dx t) (ps y dy t)) 16 0 = on at h1 a1 ⊢
  generalize rr (fun t => sok g false (ps x (-dx) t) (ps y (-dy) t)) 16 0 = back at a2 ⊢
  have bad : ((inz g (x + nI on * dx) (y + nI on * dy) && inz g (x - nI back * dx) (y - nI back * dy)) && decide (on + back - 1 < s)) = false → J1_between 2 l D ad kd [.int x, .int y, .int dx, .int dy, .int (nI s)] σ sz (fun r u => u = σ ∧ r = bI ((inz g (x + nI on * dx) (y + nI on * dy) && inz g (x - nI back * dx) (y - nI back * dy)) && decide (on + back - 1 < s))) σ 82 [some (.ref (ad 0)), some (.int x), some (.int y), some (.int dx), some (.int dy), some (.int (nI s)), some (.int (nI on)), some (.int (nI back))] [] := by
    intro h
    refine g_iconst (v := nI 0) dX1_between_82 rfl ?_
    exact g_zret dX1_between_83 rfl (⟨rfl, by rw [h]; rfl⟩)
  refine g_is7 dX1_between_24 ?_
  refine g_al0 dX1_between_26 ?_
  refine g_il1 dX1_between_27 ?_
  refine g_il6 dX1_between_28 ?_
  refine g_il3 dX1_between_30 ?_
  refine g_imul dX1_between_31 ?_
  refine g_iadd dX1_between_32 ?_
  refine g_il2 dX1_between_33 ?_
  refine g_il6 dX1_between_34 ?_
  refine g_il4 dX1_between_36 ?_
  refine g_imul dX1_between_38 ?_
  refine g_iadd dX1_between_39 ?_
  refine k1_40 dX1_between_40 (m1_in hS _ _) (by decide) (Nat.le_of_ble_eq_true rfl) ?_
  rintro r u2 ⟨hu, rfl⟩
  rw [hu]
  clear hu
  refine g_if_eq_b (tgt := 82) dX1_between_43 (by decide) (fun c43 => ?_) (fun c43 => ?_)
  · exact bad (by rw [c43]; rfl)
  · refine g_al0 dX1_between_46 ?_
    refine g_il1 dX1_between_47 ?_
    refine g_il7 dX1_between_48 ?_
    refine g_il3 dX1_between_50 ?_
    refine g_imul dX1_between_51 ?_
    refine g_isub dX1_between_52 ?_
    refine g_il2 dX1_between_53 ?_
    refine g_il7 dX1_between_54 ?_
    refine g_il4 dX1_between_56 ?_
    refine g_imul dX1_between_58 ?_
    refine g_isub dX1_between_59 ?_
    refine k1_40 dX1_between_60 (m1_in hS _ _) (by decide) (Nat.le_of_ble_eq_true rfl) ?_
    rintro r u2 ⟨hu, rfl⟩
    rw [hu]
    clear hu
    refine g_if_eq_b (tgt := 82) dX1_between_63 (by decide) (fun c63 => ?_) (fun c63 => ?_)
    · exact bad (by rw [c63, Bool.and_false]; rfl)
    · refine g_il6 dX1_between_66 ?_
      refine g_il7 dX1_between_68 ?_
      refine g_iadd_n dX1_between_70 ?_
      refine g_iconst (v := nI 1) dX1_between_71 rfl ?_
      refine g_isub_n dX1_between_72 (by omega) ?_
      refine g_il5 dX1_between_73 ?_
      refine g_icmp_ge_n (tgt := 82) dX1_between_75 (by decide) (by omega) (by omega) (fun c75 => ?_) (fun c75 => ?_)
      · exact bad (by rw [decide_eq_false (by omega), Bool.and_false])
      · refine g_iconst (v := nI 1) dX1_between_78 rfl ?_
        refine g_goto (tgt := 83) dX1_between_79 (by decide) ?_
        exact g_zret dX1_between_83 rfl (⟨rfl, by rw [c43, c63, decide_eq_true c75]; rfl⟩)
theorem m1_thin (hR : R1 c q σ) (la w : Int32) : C1_thin 2 l D ad kd [.int la, .int w] σ (fun r u => r = mkR false c q la w ∧ R1 c q u) := by
  refine Con.of (lv := [some (.ref (ad 0)), some (.int la), some (.int w), none, none, none, none, none]) (by decide) rfl (Nat.le_of_ble_eq_true rfl) (by simp [Value.category]) (Nat.le_of_ble_eq_true rfl) rfl (fun sz => ?_)
  have bad : ∀ u, R1 c q u → thV la w = false → J1_thin 2 l D ad kd [.int la, .int w] σ sz (fun r u => r = mkR false c q la w ∧ R1 c q u) u 21 [some (.ref (ad 0)), some (.int la), some (.int w), none, none, none, none, none] [] := by
    intro u hR h
    refine g_bipush (v := -2) dX1_thin_21 rfl ?_
    exact g_iret dX1_thin_23 (⟨(if_neg (by rw [h]; decide)).symm, hR⟩)
  refine g_al0 dX1_thin_0 ?_
  refine g_iconst (v := nI 0) dX1_thin_1 rfl ?_
  refine g_il1 dX1_thin_2 ?_
  refine g_il1 dX1_thin_3 ?_
  refine k1_37 dX1_thin_4 (m1_combine hR (nI 0) la la) (by decide) (Nat.le_of_ble_eq_true rfl) ?_
  rintro r u ⟨rfl, hR, hS⟩
  have hl0 : (lay (nI 0) && (lay la && lay la)) = lay la := by rw [Bool.and_self]; rfl
  rw [hl0] at hS ⊢
  refine g_if_eq_b (tgt := 21) dX1_thin_7 (by decide) (fun c7 => ?_) (fun c7 => ?_)
  · exact bad u hR (by unfold thV; rw [c7]; rfl)
  · refine g_il2 dX1_thin_10 ?_
    refine g_iconst (v := nI 1) dX1_thin_11 rfl ?_
    refine g_icmp_lt (tgt := 21) dX1_thin_12 (by decide) (fun c12 => ?_) (fun c12 => ?_)
    · exact bad u hR (by unfold thV; rw [decide_eq_true c12, Bool.not_true, Bool.false_and, Bool.and_false])
    · refine g_il2 dX1_thin_15 ?_
      refine g_bipush (v := nI 8) dX1_thin_16 rfl ?_
      refine g_icmp_le (tgt := 24) dX1_thin_18 (by decide) (fun c18 => ?_) (fun c18 => ?_)
      · have c18 : ¬ nI 8 < w := Int32.not_lt.mpr c18
        have hS := hS c7
        obtain ⟨a, ha, rfl⟩ := lay_n c7
        obtain ⟨wn, w1, w2, rfl⟩ := w_n c12 c18
        rw [mkR_ok ha w1 w2]
        rw [nI_clamp (by omega), nI_clamp (by omega), gg_0] at hS
        have gj : ∀ i j, 16 ≤ j → has c q a i j = false := fun i j hj => has_j hR.1 ha i hj
        have gi : ∀ i j, 16 ≤ i → has c q a i j = false := fun i j hi => has_i hR.1 ha hi j
        generalize has c q a = g at hS gj gi ⊢
        have outer : ∀ (d j : Nat) (w5 w6 w7 : Option Value), 16 - j < d → j ≤ 16 → J1_thin 2 l D ad kd [.int (nI a), .int (nI wn)] σ sz (fun r u => r = nI (sMark false g wn) ∧ R1 c q u) u 29 [some (.ref (ad 0)), some (.int (nI a)), some (.int (nI wn)), some (.int (nI (sm (fun j => sm (fun i => tn (mrk false g wn i j)) 16) j))), some (.int (nI j)), w5, w6, w7] [] := by
          intro d
          induction d with
          | zero => intro j w5 w6 w7 z; omega
          | succ d ih =>
            intro j w5 w6 w7 hd hj
            refine g_il4 dX1_thin_29 ?_
            refine g_bipush (v := nI 16) dX1_thin_31 rfl ?_
            refine g_icmp_ge_n (tgt := 138) dX1_thin_33 (by decide) (by omega) (by omega) (fun c33 => ?_) (fun c33 => ?_)
            · have e : j = 16 := by omega
              subst e
              refine g_il3 dX1_thin_138 ?_
              exact g_iret dX1_thin_139 (⟨congrArg nI (mark_eq false wn gj), hR⟩)
            · have inner : ∀ (d2 i : Nat) (w6 w7 : Option Value), 16 - i < d2 → i ≤ 16 → J1_thin 2 l D ad kd [.int (nI a), .int (nI wn)] σ sz (fun r u => r = nI (sMark false g wn) ∧ R1 c q u) u 39 [some (.ref (ad 0)), some (.int (nI a)), some (.int (nI wn)), some (.int (nI (sm (fun j => sm (fun i => tn (mrk false g wn i j)) 16) j + sm (fun i => tn (mrk false g wn i j)) i))), some (.int (nI j)), some (.int (nI i)), w6, w7] [] := by
                intro d2
                induction d2 with
                | zero => intro i w6 w7 z; omega
                | succ d2 ih2 =>
                  intro i w6 w7 hd2 hi
                  refine g_il5 dX1_thin_39 ?_
                  refine g_bipush (v := nI 16) dX1_thin_41 rfl ?_
                  refine g_icmp_ge_n (tgt := 132) dX1_thin_43 (by decide) (by omega) (by omega) (fun c43 => ?_) (fun c43 => ?_)
                  · have e : i = 16 := by omega
                    subst e
                    refine g_ic4_n dX1_thin_132 ?_
                    refine g_goto (tgt := 29) dX1_thin_135 (by decide) ?_
                    exact ih (j + 1) _ _ _ (by omega) (by omega)
                  · have fin : ∀ (T : Nat) (w6 w7 : Option Value), T = sm (fun j => sm (fun i => tn (mrk false g wn i j)) 16) j + sm (fun i => tn (mrk false g wn i j)) i + tn (mrk false g wn i j) → J1_thin 2 l D ad kd [.int (nI a), .int (nI wn)] σ sz (fun r u => r = nI (sMark false g wn) ∧ R1 c q u) u 126 [some (.ref (ad 0)), some (.int (nI a)), some (.int (nI wn)), some (.int (nI T)), some (.int (nI j)), some (.int (nI i)), w6, w7] [] := by
                      intro T w6 w7 hT
                      refine g_ic5_n dX1_thin_126 ?_
                      refine g_goto (tgt := 39) dX1_thin_129 (by decide) ?_
                      rw [hT, Nat.add_assoc]
                      exact ih2 (i + 1) _ _ (by omega) (by omega)
                    generalize sm (fun j => sm (fun i => tn (mrk false g wn i j)) 16) j + sm (fun i => tn (mrk false g wn i j)) i = B at fin ⊢
                    refine g_al0 dX1_thin_46 ?_
                    refine g_il5 dX1_thin_47 ?_
                    refine g_il4 dX1_thin_49 ?_
                    refine k1_40 dX1_thin_51 (m1_in hS _ _) (by decide) (Nat.le_of_ble_eq_true rfl) ?_
                    rintro r u2 ⟨hu, rfl⟩
                    rw [hu, inz_nn gi gj (by omega) (by omega)]
                    clear hu
                    refine g_if_eq_b (tgt := 126) dX1_thin_54 (by decide) (fun c54 => ?_) (fun c54 => ?_)
                    · exact fin B _ _ (by rw [mrk_no (fc_f c54)]; rfl)
                    · have hf : fc false g i j = true := c54
                      have p1 : 1 ≤ rr (fun x => fc false g x j) 16 i := rr_pos (f := fun x => fc false g x j) (n := 15) (i := i) hf
                      have p2 : 1 ≤ rr (fc false g i) 16 j := rr_pos (f := fc false g i) (n := 15) (i := j) hf
                      have q1 := rr_le (fun x => fc false g x j) 16 i
                      have q2 := rr_le (fc false g i) 16 j
                      have q3 := rl_le (fun x => fc false g x j) i
                      have q4 := rl_le (fc false g i) j
                      have hm := mrk_ff (w := wn) hf
                      refine g_al0 dX1_thin_57 ?_
                      refine g_il5 dX1_thin_58 ?_
                      refine g_il4 dX1_thin_60 ?_
                      refine g_iconst (v := -1) dX1_thin_62 rfl ?_
                      refine g_iconst (v := nI 0) dX1_thin_63 rfl ?_
                      refine g_iconst (v := nI 1) dX1_thin_64 rfl ?_
                      refine g_top (show nI 1 = bI true from rfl) ?_
                      refine k1_44 dX1_thin_65 (m1_run hS _ _ _ _ true) (by decide) (Nat.le_of_ble_eq_true rfl) ?_
                      rintro r u2 ⟨hu, rfl⟩
                      rw [hu, show rr (fun t => sok g true (ps (nI i) (-1) t) (ps (nI j) (nI 0) t)) 16 0 = rl (fun x => fc false g x j) i from run_l gi gj (by omega) (by omega)]
                      clear hu
                      refine g_al0 dX1_thin_68 ?_
                      refine g_il5 dX1_thin_69 ?_
                      refine g_il4 dX1_thin_71 ?_
                      refine g_iconst (v := nI 1) dX1_thin_73 rfl ?_
                      refine g_iconst (v := nI 0) dX1_thin_74 rfl ?_
                      refine g_iconst (v := nI 1) dX1_thin_75 rfl ?_
                      refine g_top (show nI 1 = bI true from rfl) ?_
                      refine k1_44 dX1_thin_76 (m1_run hS _ _ _ _ true) (by decide) (Nat.le_of_ble_eq_true rfl) ?_
                      rintro r u2 ⟨hu, rfl⟩
                      rw [hu, show rr (fun t => sok g true (ps (nI i) (nI 1) t) (ps (nI j) (nI 0) t)) 16 0 = rr (fun x => fc false g x j) 16 i from run_r gi gj (by omega) (by omega)]
                      clear hu
                      refine g_iadd_n dX1_thin_79 ?_
                      refine g_iconst (v := nI 1) dX1_thin_80 rfl ?_
                      refine g_isub_n dX1_thin_81 (by omega) ?_
                      refine g_is6 dX1_thin_82 ?_
                      refine g_al0 dX1_thin_84 ?_
                      refine g_il5 dX1_thin_85 ?_
                      refine g_il4 dX1_thin_87 ?_
                      refine g_iconst (v := nI 0) dX1_thin_89 rfl ?_
                      refine g_iconst (v := -1) dX1_thin_90 rfl ?_
                      refine g_iconst (v := nI 1) dX1_thin_91 rfl ?_
                      refine g_top (show nI 1 = bI true from rfl) ?_
                      refine k1_44 dX1_thin_92 (m1_run hS _ _ _ _ true) (by decide) (Nat.le_of_ble_eq_true rfl) ?_
                      rintro r u2 ⟨hu, rfl⟩
                      rw [hu, show rr (fun t => sok g true (ps (nI i) (nI 0) t) (ps (nI j) (-1) t)) 16 0 = rl (fc false g i) j from run_d gi gj (by omega) (by omega)]
                      clear hu
                      refine g_al0 dX1_thin_95 ?_
                      refine g_il5 dX1_thin_96 ?_
                      refine g_il4 dX1_thin_98 ?_
                      refine g_iconst (v := nI 0) dX1_thin_100 rfl ?_
                      refine g_iconst (v := nI 1) dX1_thin_101 rfl ?_
                      refine g_iconst (v := nI 1) dX1_thin_102 rfl ?_
                      refine g_top (show nI 1 = bI true from rfl) ?_
                      refine k1_44 dX1_thin_103 (m1_run hS _ _ _ _ true) (by decide) (Nat.le_of_ble_eq_true rfl) ?_
                      rintro r u2 ⟨hu, rfl⟩
                      rw [hu, show rr (fun t => sok g true (ps (nI i) (nI 0) t) (ps (nI j) (nI 1) t)) 16 0 = rr (fc false g i) 16 j from run_u gi gj (by omega) (by omega)]
                      clear hu
                      generalize rl (fun x => fc false g x j) i = r1 at q3 hm ⊢
                      generalize rr (fun x => fc false g x j) 16 i = r2 at p1 q1 hm ⊢
                      generalize rl (fc false g i) j = r3 at q4 hm ⊢
                      generalize rr (fc false g i) 16 j = r4 at p2 q2 hm ⊢
                      refine g_iadd_n dX1_thin_106 ?_
                      refine g_iconst (v := nI 1) dX1_thin_107 rfl ?_
                      refine g_isub_n dX1_thin_108 (by omega) ?_
                      refine g_is7 dX1_thin_109 ?_
                      refine g_il6 dX1_thin_111 ?_
                      refine g_il2 dX1_thin_113 ?_
                      refine g_icmp_lt_n (tgt := 123) dX1_thin_114 (by decide) (by omega) (by omega) (fun c114 => ?_) (fun c114 => ?_)
                      · refine g_ic3_n dX1_thin_123 ?_
                        exact fin (B + 1) _ _ (by rw [hm, decide_eq_true c114, Bool.or_true]; rfl)
                      · refine g_il7 dX1_thin_117 ?_
                        refine g_il2 dX1_thin_119 ?_
                        refine g_icmp_ge_n (tgt := 126) dX1_thin_120 (by decide) (by omega) (by omega) (fun c120 => ?_) (fun c120 => ?_)
                        · exact fin B _ _ (by rw [hm, decide_eq_false (by omega), decide_eq_false (by omega)]; rfl)
                        · refine g_ic3_n dX1_thin_123 ?_
                          exact fin (B + 1) _ _ (by rw [hm, decide_eq_true c120, Bool.true_or]; rfl)
              refine g_iconst (v := nI 0) dX1_thin_36 rfl ?_
              refine g_is5 dX1_thin_37 ?_
              exact inner 17 0 _ _ (by omega) (by omega)
        refine g_iconst (v := nI 0) dX1_thin_24 rfl ?_
        refine g_is3 dX1_thin_25 ?_
        refine g_iconst (v := nI 0) dX1_thin_26 rfl ?_
        refine g_is4 dX1_thin_27 ?_
        exact outer 17 0 none none none (by omega) (by omega)
      · exact bad u hR (by unfold thV; rw [decide_eq_true (Int32.not_le.mp c18), Bool.not_true, Bool.and_false, Bool.and_false])
theorem m1_gaps (hR : R1 c q σ) (la w : Int32) : C1_gaps 3 l D ad kd [.int la, .int w] σ (fun r u => r = mkR true c q la w ∧ R1 c q u) := by
  refine Con.of (lv := [some (.ref (ad 0)), some (.int la), some (.int w), none, none, none]) (by decide) rfl (Nat.le_of_ble_eq_true rfl) (by simp [Value.category]) (Nat.le_of_ble_eq_true rfl) rfl (fun sz => ?_)
  have bad : ∀ u, R1 c q u → thV la w = false → J1_gaps 3 l D ad kd [.int la, .int w] σ sz (fun r u => r = mkR true c q la w ∧ R1 c q u) u 21 [some (.ref (ad 0)), some (.int la), some (.int w), none, none, none] [] := by
    intro u hR h
    refine g_bipush (v := -2) dX1_gaps_21 rfl ?_
    exact g_iret dX1_gaps_23 (⟨(if_neg (by rw [h]; decide)).symm, hR⟩)
  refine g_al0 dX1_gaps_0 ?_
  refine g_iconst (v := nI 0) dX1_gaps_1 rfl ?_
  refine g_il1 dX1_gaps_2 ?_
  refine g_il1 dX1_gaps_3 ?_
  refine k1_37 dX1_gaps_4 (m1_combine hR (nI 0) la la) (by decide) (Nat.le_of_ble_eq_true rfl) ?_
  rintro r u ⟨rfl, hR, hS⟩
  have hl0 : (lay (nI 0) && (lay la && lay la)) = lay la := by rw [Bool.and_self]; rfl
  rw [hl0] at hS ⊢
  refine g_if_eq_b (tgt := 21) dX1_gaps_7 (by decide) (fun c7 => ?_) (fun c7 => ?_)
  · exact bad u hR (by unfold thV; rw [c7]; rfl)
  · refine g_il2 dX1_gaps_10 ?_
    refine g_iconst (v := nI 1) dX1_gaps_11 rfl ?_
    refine g_icmp_lt (tgt := 21) dX1_gaps_12 (by decide) (fun c12 => ?_) (fun c12 => ?_)
    · exact bad u hR (by unfold thV; rw [decide_eq_true c12, Bool.not_true, Bool.false_and, Bool.and_false])
    · refine g_il2 dX1_gaps_15 ?_
      refine g_bipush (v := nI 8) dX1_gaps_16 rfl ?_
      refine g_icmp_le (tgt := 24) dX1_gaps_18 (by decide) (fun c18 => ?_) (fun c18 => ?_)
      · have c18 : ¬ nI 8 < w := Int32.not_lt.mpr c18
        have hS := hS c7
        obtain ⟨a, ha, rfl⟩ := lay_n c7
        obtain ⟨wn, w1, w2, rfl⟩ := w_n c12 c18
        rw [mkR_ok ha w1 w2]
        rw [nI_clamp (by omega), nI_clamp (by omega), gg_0] at hS
        have gj : ∀ i j, 16 ≤ j → has c q a i j = false := fun i j hj => has_j hR.1 ha i hj
        have gi : ∀ i j, 16 ≤ i → has c q a i j = false := fun i j hi => has_i hR.1 ha hi j
        generalize has c q a = g at hS gj gi ⊢
        have outer : ∀ (d j : Nat) (w5 : Option Value), 16 - j < d → j ≤ 16 → J1_gaps 3 l D ad kd [.int (nI a), .int (nI wn)] σ sz (fun r u => r = nI (sMark true g wn) ∧ R1 c q u) u 29 [some (.ref (ad 0)), some (.int (nI a)), some (.int (nI wn)), some (.int (nI (sm (fun j => sm (fun i => tn (mrk true g wn i j)) 16) j))), some (.int (nI j)), w5] [] := by
          intro d
          induction d with
          | zero => intro j w5 z; omega
          | succ d ih =>
            intro j w5 hd hj
            refine g_il4 dX1_gaps_29 ?_
            refine g_bipush (v := nI 16) dX1_gaps_31 rfl ?_
            refine g_icmp_ge_n (tgt := 100) dX1_gaps_33 (by decide) (by omega) (by omega) (fun c33 => ?_) (fun c33 => ?_)
            · have e : j = 16 := by omega
              subst e
              refine g_il3 dX1_gaps_100 ?_
              exact g_iret dX1_gaps_101 (⟨congrArg nI (mark_eq true wn gj), hR⟩)
            · have inner : ∀ (d2 i : Nat), 16 - i < d2 → i ≤ 16 → J1_gaps 3 l D ad kd [.int (nI a), .int (nI wn)] σ sz (fun r u => r = nI (sMark true g wn) ∧ R1 c q u) u 39 [some (.ref (ad 0)), some (.int (nI a)), some (.int (nI wn)), some (.int (nI (sm (fun j => sm (fun i => tn (mrk true g wn i j)) 16) j + sm (fun i => tn (mrk true g wn i j)) i))), some (.int (nI j)), some (.int (nI i))] [] := by
                intro d2
                induction d2 with
                | zero => intro i z; omega
                | succ d2 ih2 =>
                  intro i hd2 hi
                  refine g_il5 dX1_gaps_39 ?_
                  refine g_bipush (v := nI 16) dX1_gaps_41 rfl ?_
                  refine g_icmp_ge_n (tgt := 94) dX1_gaps_43 (by decide) (by omega) (by omega) (fun c43 => ?_) (fun c43 => ?_)
                  · have e : i = 16 := by omega
                    subst e
                    refine g_ic4_n dX1_gaps_94 ?_
                    refine g_goto (tgt := 29) dX1_gaps_97 (by decide) ?_
                    exact ih (j + 1) _ (by omega) (by omega)
                  · have fin : ∀ (T : Nat), T = sm (fun j => sm (fun i => tn (mrk true g wn i j)) 16) j + sm (fun i => tn (mrk true g wn i j)) i + tn (mrk true g wn i j) → J1_gaps 3 l D ad kd [.int (nI a), .int (nI wn)] σ sz (fun r u => r = nI (sMark true g wn) ∧ R1 c q u) u 88 [some (.ref (ad 0)), some (.int (nI a)), some (.int (nI wn)), some (.int (nI T)), some (.int (nI j)), some (.int (nI i))] [] := by
                      intro T hT
                      refine g_ic5_n dX1_gaps_88 ?_
                      refine g_goto (tgt := 39) dX1_gaps_91 (by decide) ?_
                      rw [hT, Nat.add_assoc]
                      exact ih2 (i + 1) (by omega) (by omega)
                    generalize sm (fun j => sm (fun i => tn (mrk true g wn i j)) 16) j + sm (fun i => tn (mrk true g wn i j)) i = B at fin ⊢
                    refine g_al0 dX1_gaps_46 ?_
                    refine g_il5 dX1_gaps_47 ?_
                    refine g_il4 dX1_gaps_49 ?_
                    refine k1_40 dX1_gaps_51 (m1_in hS _ _) (by decide) (Nat.le_of_ble_eq_true rfl) ?_
                    rintro r u2 ⟨hu, rfl⟩
                    rw [hu, inz_nn gi gj (by omega) (by omega)]
                    clear hu
                    refine g_if_ne_b (tgt := 88) dX1_gaps_54 (by decide) (fun c54 => ?_) (fun c54 => ?_)
                    · exact fin B (by rw [mrk_no (fc_g c54)]; rfl)
                    · have hf : fc true g i j = true := by rw [fc_in c43 c33, c54]; rfl
                      have p1 : 1 ≤ rr (fun x => fc true g x j) 16 i := rr_pos (f := fun x => fc true g x j) (n := 15) (i := i) hf
                      have p2 : 1 ≤ rr (fc true g i) 16 j := rr_pos (f := fc true g i) (n := 15) (i := j) hf
                      refine g_al0 dX1_gaps_57 ?_
                      refine g_il5 dX1_gaps_58 ?_
                      refine g_il4 dX1_gaps_60 ?_
                      refine g_iconst (v := nI 1) dX1_gaps_62 rfl ?_
                      refine g_iconst (v := nI 0) dX1_gaps_63 rfl ?_
                      refine g_il2 dX1_gaps_64 ?_
                      refine k1_48 dX1_gaps_65 (m1_between hS (nI i) (nI j) (nI 1) (nI 0) wn (by omega) (by rw [run_r gi gj c43 c33]; exact p1)) (by decide) (Nat.le_of_ble_eq_true rfl) ?_
                      rintro r u2 ⟨hu, rfl⟩
                      rw [hu, btw_h gi gj c43 c33 hf]
                      clear hu
                      refine g_if_ne_b (tgt := 85) dX1_gaps_68 (by decide) (fun c68 => ?_) (fun c68 => ?_)
                      · refine g_ic3_n dX1_gaps_85 ?_
                        exact fin (B + 1) (by unfold mrk; rw [c68, Bool.or_true]; rfl)
                      · refine g_al0 dX1_gaps_71 ?_
                        refine g_il5 dX1_gaps_72 ?_
                        refine g_il4 dX1_gaps_74 ?_
                        refine g_iconst (v := nI 0) dX1_gaps_76 rfl ?_
                        refine g_iconst (v := nI 1) dX1_gaps_77 rfl ?_
                        refine g_il2 dX1_gaps_78 ?_
                        refine k1_48 dX1_gaps_79 (m1_between hS (nI i) (nI j) (nI 0) (nI 1) wn (by omega) (by rw [run_u gi gj c43 c33]; exact p2)) (by decide) (Nat.le_of_ble_eq_true rfl) ?_
                        rintro r u2 ⟨hu, rfl⟩
                        rw [hu, btw_v gi gj c43 c33 hf]
                        clear hu
                        refine g_if_eq_b (tgt := 88) dX1_gaps_82 (by decide) (fun c82 => ?_) (fun c82 => ?_)
                        · exact fin B (by unfold mrk; rw [c68, c82]; rfl)
                        · refine g_ic3_n dX1_gaps_85 ?_
                          exact fin (B + 1) (by unfold mrk; rw [c82, Bool.true_or]; rfl)
              refine g_iconst (v := nI 0) dX1_gaps_36 rfl ?_
              refine g_is5 dX1_gaps_37 ?_
              exact inner 17 0 (by omega) (by omega)
        refine g_iconst (v := nI 0) dX1_gaps_24 rfl ?_
        refine g_is3 dX1_gaps_25 ?_
        refine g_iconst (v := nI 0) dX1_gaps_26 rfl ?_
        refine g_is4 dX1_gaps_27 ?_
        exact outer 17 0 none (by omega) (by omega)
      · exact bad u hR (by unfold thV; rw [decide_eq_true (Int32.not_le.mp c18), Bool.not_true, Bool.and_false, Bool.and_false])
end RUN1
end
section
set_option maxRecDepth 100000
/-! DrcScanModel: around, encloses, enclosure; widening step by step is a box around each cell -/
theorem dlt {a b m : Nat} (ha : a < 2 ^ 30) (hb : b < 2 ^ 30) (hm : m < 2 ^ 30) : nI a < nI b - nI m ↔ a + m < b := by
  rw [Int32.lt_iff_toInt_lt, nI_toInt (by omega), pk_sub_toInt hb hm]
  omega
theorem dneg {b m : Nat} (hb : b < 2 ^ 30) (hm : m < 2 ^ 30) : nI b - nI m < 0 ↔ b < m := by
  rw [Int32.lt_iff_toInt_lt, pk_sub_toInt hb hm, Int32.toInt_zero]
  omega
theorem dinc (b m : Nat) : (nI b - nI m) + Int32.ofInt 1 = nI (b + 1) - nI m := by
  rw [← nI_1 b, show Int32.ofInt 1 = 1 from rfl]
  grind
def viol (A : Nat → Nat → Bool) (i j m s t : Nat) : Bool := ((decide (m ≤ i + s) && decide (i + s - m < 16)) && (decide (m ≤ j + t) && decide (j + t - m < 16))) && !A (i + s - m) (j + t - m)
def aroB (A : Nat → Nat → Bool) (i j m : Nat) : Bool := !anyB (fun t => anyB (fun s => viol A i j m s t) (2 * m + 1)) (2 * m + 1)
def encB (A B : Nat → Nat → Bool) (m : Nat) : Bool := !anyB (fun x => B (x % 16) (x / 16) && !aroB A (x % 16) (x / 16) m) 256
theorem not_any {f : Nat → Bool} {n : Nat} : (!anyB f n) = true ↔ ∀ k, k < n → f k = false := by
  constructor
  · intro h k hk
    cases hf : f k
    · rfl
    · rw [anyB_iff.mpr ⟨k, hk, hf⟩] at h
      cases h
  · intro h
    rw [anyB_no h]
    rfl
theorem vdl_iff {g : Nat → Nat → Bool} {i j : Nat} : vdl g i j = true ↔ j < 16 ∧ ∃ j1, g i j1 = true ∧ j ≤ j1 + 1 ∧ j1 ≤ j + 1 := by
  unfold vdl
  rw [Bool.and_eq_true, decide_eq_true_eq, Bool.or_eq_true, Bool.or_eq_true]
  constructor
  · rintro ⟨h0, h | h | h⟩
    · exact ⟨h0, j, h, by omega, by omega⟩
    · cases j with
      | zero => cases h
      | succ j => exact ⟨h0, j, h, by omega, by omega⟩
    · exact ⟨h0, j + 1, h, by omega, by omega⟩
  · rintro ⟨h0, j1, h, h1, h2⟩
    refine ⟨h0, ?_⟩
    rcases Nat.lt_trichotomy j j1 with z | z | z
    · exact Or.inr (Or.inr (by rw [show j + 1 = j1 by omega]; exact h))
    · exact Or.inl (by rw [z]; exact h)
    · refine Or.inr (Or.inl ?_)
      cases j with
      | zero => omega
      | succ j =>
        show g i j = true
        rw [show j = j1 by omega]
        exact h
theorem dil_iff {g : Nat → Nat → Bool} {i j : Nat} (hi : i < 16) : dil g i j = true ↔ ∃ i1, i1 < 16 ∧ vdl g i1 j = true ∧ i ≤ i1 + 1 ∧ i1 ≤ i + 1 := by
  unfold dil
  rw [Bool.or_eq_true, Bool.or_eq_true, Bool.and_eq_true, decide_eq_true_eq]
  constructor
  · rintro (h | h | ⟨h0, h⟩)
    · exact ⟨i, hi, h, by omega, by omega⟩
    · cases i with
      | zero => cases h
      | succ i => exact ⟨i, by omega, h, by omega, by omega⟩
    · exact ⟨i + 1, by omega, h, by omega, by omega⟩
  · rintro ⟨i1, h0, h, h1, h2⟩
    rcases Nat.lt_trichotomy i i1 with z | z | z
    · exact Or.inr (Or.inr ⟨by omega, by rw [show i + 1 = i1 by omega]; exact h⟩)
    · exact Or.inl (by rw [z]; exact h)
    · refine Or.inr (Or.inl ?_)
      cases i with
      | zero => omega
      | succ i =>
        show vdl g i j = true
        rw [show i = i1 by omega]
        exact h
theorem itd_iff {B : Nat → Nat → Bool} (bi : ∀ i j, 16 ≤ i → B i j = false) (bj : ∀ i j, 16 ≤ j → B i j = false) : ∀ (m i j : Nat), i < 16 → (itd B m i j = true ↔ j < 16 ∧ ∃ i' j', B i' j' = true ∧ i ≤ i' + m ∧ i' ≤ i + m ∧ j ≤ j' + m ∧ j' ≤ j + m) := by
  intro m
  induction m with
  | zero =>
    intro i j hi
    constructor
    · intro h
      have h : B i j = true := h
      refine ⟨?_, i, j, h, by omega, by omega, by omega, by omega⟩
      rcases Nat.lt_or_ge j 16 with z | z
      · exact z
      · rw [bj i j z] at h
        cases h
    · rintro ⟨h0, i', j', h, h1, h2, h3, h4⟩
      show B i j = true
      rw [show i = i' by omega, show j = j' by omega]
      exact h
  | succ m ih =>
    intro i j hi
    show dil (itd B m) i j = true ↔ _
    rw [dil_iff hi]
    constructor
    · rintro ⟨i1, q1, h, q2, q3⟩
      obtain ⟨h0, j1, hg, q4, q5⟩ := vdl_iff.mp h
      obtain ⟨h1, i', j', hb, a1, a2, a3, a4⟩ := (ih i1 j1 q1).mp hg
      exact ⟨h0, i', j', hb, by omega, by omega, by omega, by omega⟩
    · rintro ⟨h0, i', j', hb, a1, a2, a3, a4⟩
      have hi' : i' < 16 := by
        rcases Nat.lt_or_ge i' 16 with z | z
        · exact z
        · rw [bi i' j' z] at hb
          cases hb
      have hj' : j' < 16 := by
        rcases Nat.lt_or_ge j' 16 with z | z
        · exact z
        · rw [bj i' j' z] at hb
          cases hb
      obtain ⟨i1, b1, b2, b3, b4, b5⟩ : ∃ i1, i1 < 16 ∧ i ≤ i1 + 1 ∧ i1 ≤ i + 1 ∧ i1 ≤ i' + m ∧ i' ≤ i1 + m := by
        rcases Nat.lt_trichotomy i i' with z | z | z
        · exact ⟨i + 1, by omega, by omega, by omega, by omega, by omega⟩
        · exact ⟨i, by omega, by omega, by omega, by omega, by omega⟩
        · exact ⟨i - 1, by omega, by omega, by omega, by omega, by omega⟩
      obtain ⟨j1, d1, d2, d3, d4, d5⟩ : ∃ j1, j1 < 16 ∧ j ≤ j1 + 1 ∧ j1 ≤ j + 1 ∧ j1 ≤ j' + m ∧ j' ≤ j1 + m := by
        rcases Nat.lt_trichotomy j j' with z | z | z
        · exact ⟨j + 1, by omega, by omega, by omega, by omega, by omega⟩
        · exact ⟨j, by omega, by omega, by omega, by omega, by omega⟩
        · exact ⟨j - 1, by omega, by omega, by omega, by omega, by omega⟩
      exact ⟨i1, b1, vdl_iff.mpr ⟨h0, j1, (ih i1 j1 b1).mpr ⟨d1, i', j', hb, b4, b5, d4, d5⟩, d2, d3⟩, b2, b3⟩
theorem aro_iff {A : Nat → Nat → Bool} {i j m : Nat} : aroB A i j m = true ↔ ∀ x y, x < 16 → y < 16 → x ≤ i + m → i ≤ x + m → y ≤ j + m → j ≤ y + m → A x y = true := by
  unfold aroB
  rw [not_any]
  constructor
  · intro h x y hx hy a1 a2 a3 a4
    have h1 := h (y + m - j) (by omega)
    have h2 : viol A i j m (x + m - i) (y + m - j) = false := by
      cases hv : viol A i j m (x + m - i) (y + m - j)
      · rfl
      · rw [anyB_iff.mpr ⟨x + m - i, by omega, hv⟩] at h1
        cases h1
    unfold viol at h2
    rw [decide_eq_true (show m ≤ i + (x + m - i) by omega), decide_eq_true (show i + (x + m - i) - m < 16 by omega), decide_eq_true (show m ≤ j + (y + m - j) by omega), decide_eq_true (show j + (y + m - j) - m < 16 by omega), show i + (x + m - i) - m = x by omega, show j + (y + m - j) - m = y by omega] at h2
    simpa using h2
  · intro h t ht
    refine anyB_no fun s hs => ?_
    cases hv : viol A i j m s t
    · rfl
    · unfold viol at hv
      simp only [Bool.and_eq_true, decide_eq_true_eq, Bool.not_eq_true'] at hv
      obtain ⟨⟨⟨v1, v2⟩, v3, v4⟩, v5⟩ := hv
      rw [h (i + s - m) (j + t - m) v2 v4 (by omega) (by omega) (by omega) (by omega)] at v5
      cases v5
theorem enc_eq {A B : Nat → Nat → Bool} (bi : ∀ i j, 16 ≤ i → B i j = false) (bj : ∀ i j, 16 ≤ j → B i j = false) (m : Nat) : encB A B m = subB A (itd B m) := by
  rw [Bool.eq_iff_iff]
  unfold encB subB
  rw [not_any, not_any]
  constructor
  · intro h i hi
    refine anyB_no fun j hj => ?_
    cases hd : itd B m i j
    · rfl
    · obtain ⟨h0, i', j', hb, a1, a2, a3, a4⟩ := (itd_iff bi bj m i j hi).mp hd
      have hi' : i' < 16 := by
        rcases Nat.lt_or_ge i' 16 with z | z
        · exact z
        · rw [bi i' j' z] at hb
          cases hb
      have hj' : j' < 16 := by
        rcases Nat.lt_or_ge j' 16 with z | z
        · exact z
        · rw [bj i' j' z] at hb
          cases hb
      have hx := h (16 * j' + i') (by omega)
      rw [show (16 * j' + i') % 16 = i' by omega, show (16 * j' + i') / 16 = j' by omega, hb, Bool.true_and, Bool.not_eq_false'] at hx
      rw [aro_iff.mp hx i j hi h0 a1 a2 a3 a4]
      rfl
  · intro h x hx
    cases hb : B (x % 16) (x / 16)
    · rfl
    · rw [Bool.true_and, Bool.not_eq_false']
      refine aro_iff.mpr fun i j hi hj a1 a2 a3 a4 => ?_
      have hd := (itd_iff bi bj m i j hi).mpr ⟨hj, x % 16, x / 16, hb, a1, a2, a3, a4⟩
      have h1 := h i hi
      cases hA : A i j
      · rw [anyB_iff.mpr ⟨j, by omega, by rw [hd, hA]; rfl⟩] at h1
        cases h1
      · rfl
section ENC1
variable {l : Launch} {D : va_G} {ad : Nat → Nat} {kd : Nat → ClassId} {σ : gS} {c : Nat → Nat} {q : Nat → Nat → Nat} {A : Nat → Nat → Bool}
theorem m1_around (hS : St1 A σ) (gi : ∀ i j, 16 ≤ i → A i j = false) (gj : ∀ i j, 16 ≤ j → A i j = false) {i j m : Nat} (hi : i < 16) (hj : j < 16) (hm : m ≤ 8) : C1_around 1 l D ad kd [.int (nI i), .int (nI j), .int (nI m)] σ (fun r u => u = σ ∧ r = bI (aroB A i j m)) := by
  refine Con.of (lv := [some (.ref (ad 0)), some (.int (nI i)), some (.int (nI j)), some (.int (nI m)), none, none]) (by decide) rfl (Nat.le_of_ble_eq_true rfl) (by simp [Value.category]) (Nat.le_of_ble_eq_true rfl) rfl (fun sz => ?_)
  have outer : ∀ (d t : Nat) (w5 : Option Value), 2 * m + 1 - t < d → t ≤ 2 * m + 1 → (∀ z, z < t → anyB (fun s => viol A i j m s z) (2 * m + 1) = false) → J1_around 1 l D ad kd [.int (nI i), .int (nI j), .int (nI m)] σ sz (fun r u => u = σ ∧ r = bI (aroB A i j m)) σ 5 [some (.ref (ad 0)), some (.int (nI i)), some (.int (nI j)), some (.int (nI m)), some (.int (nI (j + t) - nI m)), w5] [] := by
    intro d
    induction d with
    | zero => intro t w5 z; omega
    | succ d ih =>
      intro t w5 hd ht hz
      refine g_il4 dX1_around_5 ?_
      refine g_il2 dX1_around_7 ?_
      refine g_il3 dX1_around_8 ?_
      refine g_iadd_n dX1_around_9 ?_
      refine g_icmp_gt (tgt := 75) dX1_around_10 (by decide) (fun c10 => ?_) (fun c10 => ?_)
      · have := (dlt (by omega) (by omega) (by omega)).mp c10
        refine g_iconst (v := nI 1) dX1_around_75 rfl ?_
        exact g_zret dX1_around_76 rfl (⟨rfl, by rw [show aroB A i j m = true from not_any.mpr (fun k hk => hz k (by omega))]; rfl⟩)
      · have c10 := mt (dlt (a := j + m) (b := j + t) (m := m) (by omega) (by omega) (by omega)).mpr c10
        have inner : ∀ (d2 s : Nat), 2 * m + 1 - s < d2 → s ≤ 2 * m + 1 → (∀ z, z < s → viol A i j m z t = false) → J1_around 1 l D ad kd [.int (nI i), .int (nI j), .int (nI m)] σ sz (fun r u => u = σ ∧ r = bI (aroB A i j m)) σ 18 [some (.ref (ad 0)), some (.int (nI i)), some (.int (nI j)), some (.int (nI m)), some (.int (nI (j + t) - nI m)), some (.int (nI (i + s) - nI m))] [] := by
          intro d2
          induction d2 with
          | zero => intro s z; omega
          | succ d2 ih2 =>
            intro s hd2 hs hy
            refine g_il5 dX1_around_18 ?_
            refine g_il1 dX1_around_20 ?_
            refine g_il3 dX1_around_21 ?_
            refine g_iadd_n dX1_around_22 ?_
            refine g_icmp_gt (tgt := 69) dX1_around_23 (by decide) (fun c23 => ?_) (fun c23 => ?_)
            · have := (dlt (by omega) (by omega) (by omega)).mp c23
              refine g_ic4 dX1_around_69 (dinc _ _) ?_
              refine g_goto (tgt := 5) dX1_around_72 (by decide) ?_
              refine ih (t + 1) _ (by omega) (by omega) (fun z z1 => ?_)
              rcases Nat.lt_or_ge z t with y | y
              · exact hz z y
              · rw [show z = t by omega]
                exact anyB_no fun k hk => hy k (by omega)
            · have c23 := mt (dlt (a := i + m) (b := i + s) (m := m) (by omega) (by omega) (by omega)).mpr c23
              have skip : viol A i j m s t = false → J1_around 1 l D ad kd [.int (nI i), .int (nI j), .int (nI m)] σ sz (fun r u => u = σ ∧ r = bI (aroB A i j m)) σ 63 [some (.ref (ad 0)), some (.int (nI i)), some (.int (nI j)), some (.int (nI m)), some (.int (nI (j + t) - nI m)), some (.int (nI (i + s) - nI m))] [] := by
                intro h
                refine g_ic5 dX1_around_63 (dinc _ _) ?_
                refine g_goto (tgt := 18) dX1_around_66 (by decide) ?_
                refine ih2 (s + 1) (by omega) (by omega) (fun z z1 => ?_)
                rcases Nat.lt_or_ge z s with y | y
                · exact hy z y
                · rw [show z = s by omega]
                  exact h
              refine g_il5 dX1_around_26 ?_
              refine g_if_lt (tgt := 63) dX1_around_28 (by decide) (fun c28 => ?_) (fun c28 => ?_)
              · have := (dneg (by omega) (by omega)).mp c28
                exact skip (by unfold viol; rw [decide_eq_false (by omega)]; rfl)
              · have c28 := mt (dneg (b := i + s) (m := m) (by omega) (by omega)).mpr c28
                refine g_il5 dX1_around_31 ?_
                refine g_bipush (v := nI 15) dX1_around_33 rfl ?_
                refine g_icmp_gt (tgt := 63) dX1_around_35 (by decide) (fun c35 => ?_) (fun c35 => ?_)
                · have := (dlt (by omega) (by omega) (by omega)).mp c35
                  exact skip (by unfold viol; rw [decide_eq_false (show ¬ i + s - m < 16 by omega)]; simp)
                · have c35 := mt (dlt (a := 15) (b := i + s) (m := m) (by omega) (by omega) (by omega)).mpr c35
                  refine g_il4 dX1_around_38 ?_
                  refine g_if_lt (tgt := 63) dX1_around_40 (by decide) (fun c40 => ?_) (fun c40 => ?_)
                  · have := (dneg (by omega) (by omega)).mp c40
                    exact skip (by unfold viol; rw [decide_eq_false (show ¬ m ≤ j + t by omega)]; simp)
                  · have c40 := mt (dneg (b := j + t) (m := m) (by omega) (by omega)).mpr c40
                    refine g_il4 dX1_around_43 ?_
                    refine g_bipush (v := nI 15) dX1_around_45 rfl ?_
                    refine g_icmp_gt (tgt := 63) dX1_around_47 (by decide) (fun c47 => ?_) (fun c47 => ?_)
                    · have := (dlt (by omega) (by omega) (by omega)).mp c47
                      exact skip (by unfold viol; rw [decide_eq_false (show ¬ j + t - m < 16 by omega)]; simp)
                    · have c47 := mt (dlt (a := 15) (b := j + t) (m := m) (by omega) (by omega) (by omega)).mpr c47
                      refine g_al0 dX1_around_50 ?_
                      refine g_il5 dX1_around_51 ?_
                      refine g_il4 dX1_around_53 ?_
                      refine k1_40 dX1_around_55 (m1_in hS _ _) (by decide) (Nat.le_of_ble_eq_true rfl) ?_
                      rintro r u2 ⟨hu, rfl⟩
                      rw [hu, pk_sub (show m ≤ i + s by omega), pk_sub (show m ≤ j + t by omega), inz_nn gi gj (by omega) (by omega), ← pk_sub (show m ≤ i + s by omega), ← pk_sub (show m ≤ j + t by omega)]
                      clear hu
                      have hv : viol A i j m s t = !A (i + s - m) (j + t - m) := by
                        unfold viol
                        rw [decide_eq_true (show m ≤ i + s by omega), decide_eq_true (show i + s - m < 16 by omega), decide_eq_true (show m ≤ j + t by omega), decide_eq_true (show j + t - m < 16 by omega)]
                        rfl
                      refine g_if_ne_b (tgt := 63) dX1_around_58 (by decide) (fun c58 => ?_) (fun c58 => ?_)
                      · exact skip (by rw [hv, c58]; rfl)
                      · refine g_iconst (v := nI 0) dX1_around_61 rfl ?_
                        have hx : anyB (fun s => viol A i j m s t) (2 * m + 1) = true := anyB_iff.mpr ⟨s, by omega, by rw [hv, c58]; rfl⟩
                        exact g_zret dX1_around_62 rfl (⟨rfl, by unfold aroB; rw [anyB_iff.mpr ⟨t, by omega, hx⟩]; rfl⟩)
        refine g_il1 dX1_around_13 ?_
        refine g_il3 dX1_around_14 ?_
        refine g_isub dX1_around_15 ?_
        refine g_is5 dX1_around_16 ?_
        exact inner (2 * m + 2) 0 (by omega) (by omega) (fun z hz => absurd hz (Nat.not_lt_zero z))
  refine g_il2 dX1_around_0 ?_
  refine g_il3 dX1_around_1 ?_
  refine g_isub dX1_around_2 ?_
  refine g_is4 dX1_around_3 ?_
  exact outer (2 * m + 2) 0 none (by omega) (by omega) (fun z hz => absurd hz (Nat.not_lt_zero z))
theorem m1_encloses (hR : R1 c q σ) (hS : St1 A σ) (gi : ∀ i j, 16 ≤ i → A i j = false) (gj : ∀ i j, 16 ≤ j → A i j = false) {b m : Nat} (hb : b < 3) (hm : m ≤ 8) : C1_encloses 2 l D ad kd [.int (nI b), .int (nI m)] σ (fun r u => u = σ ∧ r = bI (encB A (has c q b) m)) := by
  refine Con.of (lv := [some (.ref (ad 0)), some (.int (nI b)), some (.int (nI m)), none]) (by decide) rfl (Nat.le_of_ble_eq_true rfl) (by simp [Value.category]) (Nat.le_of_ble_eq_true rfl) rfl (fun sz => ?_)
  have loop : ∀ (d k : Nat), 256 - k < d → k ≤ 256 → (∀ x, x < k → (has c q b (x % 16) (x / 16) && !aroB A (x % 16) (x / 16) m) = false) → J1_encloses 2 l D ad kd [.int (nI b), .int (nI m)] σ sz (fun r u => u = σ ∧ r = bI (encB A (has c q b) m)) σ 2 [some (.ref (ad 0)), some (.int (nI b)), some (.int (nI m)), some (.int (nI k))] [] := by
    intro d
    induction d with
    | zero => intro k z; omega
    | succ d ih =>
      intro k hd hk hz
      refine g_il3 dX1_encloses_2 ?_
      refine g_sipush (v := nI 256) dX1_encloses_3 rfl ?_
      refine g_icmp_ge_n (tgt := 49) dX1_encloses_6 (by decide) (by omega) (by omega) (fun c6 => ?_) (fun c6 => ?_)
      · refine g_iconst (v := nI 1) dX1_encloses_49 rfl ?_
        exact g_zret dX1_encloses_50 rfl (⟨rfl, by rw [show encB A (has c q b) m = true from not_any.mpr (fun x hx => hz x (by omega))]; rfl⟩)
      · have skip : (has c q b (k % 16) (k / 16) && !aroB A (k % 16) (k / 16) m) = false → J1_encloses 2 l D ad kd [.int (nI b), .int (nI m)] σ sz (fun r u => u = σ ∧ r = bI (encB A (has c q b) m)) σ 43 [some (.ref (ad 0)), some (.int (nI b)), some (.int (nI m)), some (.int (nI k))] [] := by
          intro h
          refine g_ic3_n dX1_encloses_43 ?_
          refine g_goto (tgt := 2) dX1_encloses_46 (by decide) ?_
          refine ih (k + 1) (by omega) (by omega) (fun x hx => ?_)
          rcases Nat.lt_or_ge x k with y | y
          · exact hz x y
          · rw [show x = k by omega]
            exact h
        refine g_al0 dX1_encloses_9 ?_
        refine g_il1 dX1_encloses_10 ?_
        refine g_il3 dX1_encloses_11 ?_
        refine g_bipush (v := nI 16) dX1_encloses_12 rfl ?_
        refine g_irem dX1_encloses_14 (by decide) ?_
        refine g_top (rm (by omega) (by decide) (by decide)) ?_
        refine g_il3 dX1_encloses_15 ?_
        refine g_bipush (v := nI 16) dX1_encloses_16 rfl ?_
        refine g_idiv dX1_encloses_18 (by decide) ?_
        refine g_top (dv (by omega) (by decide) (by decide)) ?_
        refine k1_33 dX1_encloses_19 (m1_has hR hb (by omega) (by omega)) (by decide) (Nat.le_of_ble_eq_true rfl) ?_
        rintro r u2 ⟨hu, rfl⟩
        rw [hu]
        clear hu
        refine g_if_eq_b (tgt := 43) dX1_encloses_22 (by decide) (fun c22 => ?_) (fun c22 => ?_)
        · exact skip (by rw [c22]; rfl)
        · refine g_al0 dX1_encloses_25 ?_
          refine g_il3 dX1_encloses_26 ?_
          refine g_bipush (v := nI 16) dX1_encloses_27 rfl ?_
          refine g_irem dX1_encloses_29 (by decide) ?_
          refine g_top (rm (by omega) (by decide) (by decide)) ?_
          refine g_il3 dX1_encloses_30 ?_
          refine g_bipush (v := nI 16) dX1_encloses_31 rfl ?_
          refine g_idiv dX1_encloses_33 (by decide) ?_
          refine g_top (dv (by omega) (by decide) (by decide)) ?_
          refine g_il2 dX1_encloses_34 ?_
          refine k1_52 dX1_encloses_35 (m1_around hS gi gj (by omega) (by omega) hm) (by decide) (Nat.le_of_ble_eq_true rfl) ?_
          rintro r u2 ⟨hu, rfl⟩
          rw [hu]
          clear hu
          refine g_if_ne_b (tgt := 43) dX1_encloses_38 (by decide) (fun c38 => ?_) (fun c38 => ?_)
          · exact skip (by rw [c38, Bool.not_true, Bool.and_false])
          · refine g_iconst (v := nI 0) dX1_encloses_41 rfl ?_
            exact g_zret dX1_encloses_42 rfl (⟨rfl, by unfold encB; rw [anyB_iff.mpr ⟨k, by omega, by rw [c22, c38]; rfl⟩]; rfl⟩)
  refine g_iconst (v := nI 0) dX1_encloses_0 rfl ?_
  refine g_is3 dX1_encloses_1 ?_
  exact loop 257 0 (by omega) (by omega) (fun z hz => absurd hz (Nat.not_lt_zero z))
theorem m1_enclosure (hR : R1 c q σ) (la lb : Int32) : C1_enclosure 3 l D ad kd [.int la, .int lb] σ (fun r u => r = encR c q la lb ∧ R1 c q u) := by
  refine Con.of (lv := [some (.ref (ad 0)), some (.int la), some (.int lb), none]) (by decide) rfl (Nat.le_of_ble_eq_true rfl) (by simp [Value.category]) (Nat.le_of_ble_eq_true rfl) rfl (fun sz => ?_)
  have bad : ∀ u, R1 c q u → (lay la && lay lb) = false → J1_enclosure 3 l D ad kd [.int la, .int lb] σ sz (fun r u => r = encR c q la lb ∧ R1 c q u) u 18 [some (.ref (ad 0)), some (.int la), some (.int lb), none] [] := by
    intro u hR h
    refine g_bipush (v := -2) dX1_enclosure_18 rfl ?_
    exact g_iret dX1_enclosure_20 (⟨(if_neg (by rw [h]; decide)).symm, hR⟩)
  refine g_al0 dX1_enclosure_0 ?_
  refine g_il2 dX1_enclosure_1 ?_
  refine k1_29 dX1_enclosure_2 (m1_isLayer lb) (by decide) (Nat.le_of_ble_eq_true rfl) ?_
  rintro r u ⟨hu, rfl⟩
  rw [hu]
  clear hu
  refine g_if_eq_b (tgt := 18) dX1_enclosure_5 (by decide) (fun c5 => ?_) (fun c5 => ?_)
  · exact bad σ hR (by rw [c5, Bool.and_false])
  · refine g_al0 dX1_enclosure_8 ?_
    refine g_iconst (v := nI 0) dX1_enclosure_9 rfl ?_
    refine g_il1 dX1_enclosure_10 ?_
    refine g_il1 dX1_enclosure_11 ?_
    refine k1_37 dX1_enclosure_12 (m1_combine hR (nI 0) la la) (by decide) (Nat.le_of_ble_eq_true rfl) ?_
    rintro r u ⟨rfl, hR, hS⟩
    have hl0 : (lay (nI 0) && (lay la && lay la)) = lay la := by rw [Bool.and_self]; rfl
    rw [hl0] at hS ⊢
    refine g_if_ne_b (tgt := 21) dX1_enclosure_15 (by decide) (fun c15 => ?_) (fun c15 => ?_)
    · have hS := hS c15
      obtain ⟨a, ha, rfl⟩ := lay_n c15
      obtain ⟨b, hb, rfl⟩ := lay_n c5
      rw [encR_ok ha hb]
      rw [nI_clamp (by omega), nI_clamp (by omega), gg_0] at hS
      have gj : ∀ i j, 16 ≤ j → has c q a i j = false := fun i j hj => has_j hR.1 ha i hj
      have gi : ∀ i j, 16 ≤ i → has c q a i j = false := fun i j hi => has_i hR.1 ha hi j
      have bj : ∀ i j, 16 ≤ j → has c q b i j = false := fun i j hj => has_j hR.1 hb i hj
      have bi : ∀ i j, 16 ≤ i → has c q b i j = false := fun i j hi => has_i hR.1 hb hi j
      have loop : ∀ (d k : Nat), 9 - k < d → k ≤ 9 → (∀ t, t < k → subB (has c q a) (itd (has c q b) t) = true) → J1_enclosure 3 l D ad kd [.int (nI a), .int (nI b)] σ sz (fun r u => r = nI (rr (fun m => subB (has c q a) (itd (has c q b) m)) 9 0) - 1 ∧ R1 c q u) u 23 [some (.ref (ad 0)), some (.int (nI a)), some (.int (nI b)), some (.int (nI k))] [] := by
        intro d
        induction d with
        | zero => intro k z; omega
        | succ d ih =>
          intro k hd hk ht
          have hrr : (k = 9 ∨ subB (has c q a) (itd (has c q b) k) = false) → rr (fun m => subB (has c q a) (itd (has c q b) m)) 9 0 = k := by
            intro hz
            exact rr_of (f := fun m => subB (has c q a) (itd (has c q b) m)) k 9 0 hk (fun t h1 => by rw [Nat.zero_add]; exact ht t h1) (by rw [Nat.zero_add]; exact hz)
          refine g_il3 dX1_enclosure_23 ?_
          refine g_bipush (v := nI 8) dX1_enclosure_24 rfl ?_
          refine g_icmp_gt_n (tgt := 48) dX1_enclosure_26 (by decide) (by omega) (by omega) (fun c26 => ?_) (fun c26 => ?_)
          · refine g_bipush (v := nI 8) dX1_enclosure_48 rfl ?_
            exact g_iret dX1_enclosure_50 (⟨by rw [hrr (Or.inl (by omega)), show k = 9 by omega]; rfl, hR⟩)
          · refine g_al0 dX1_enclosure_29 ?_
            refine g_il2 dX1_enclosure_30 ?_
            refine g_il3 dX1_enclosure_31 ?_
            refine k1_55 dX1_enclosure_32 (m1_encloses hR hS gi gj hb (by omega)) (by decide) (Nat.le_of_ble_eq_true rfl) ?_
            rintro r u2 ⟨hu, rfl⟩
            rw [hu, enc_eq bi bj k]
            clear hu
            refine g_if_ne_b (tgt := 42) dX1_enclosure_35 (by decide) (fun c35 => ?_) (fun c35 => ?_)
            · refine g_ic3_n dX1_enclosure_42 ?_
              refine g_goto (tgt := 23) dX1_enclosure_45 (by decide) ?_
              refine ih (k + 1) (by omega) (by omega) (fun t h1 => ?_)
              rcases Nat.lt_or_ge t k with z | z
              · exact ht t z
              · rw [show t = k by omega]
                exact c35
            · refine g_il3 dX1_enclosure_38 ?_
              refine g_iconst (v := nI 1) dX1_enclosure_39 rfl ?_
              refine g_isub dX1_enclosure_40 ?_
              exact g_iret dX1_enclosure_41 (⟨by rw [hrr (Or.inr c35)]; rfl, hR⟩)
      refine g_iconst (v := nI 0) dX1_enclosure_21 rfl ?_
      refine g_is3 dX1_enclosure_22 ?_
      exact loop 10 0 (by omega) (by omega) (fun t ht => absurd ht (Nat.not_lt_zero t))
    · exact bad u hR (by rw [c15]; rfl)
end ENC1
end
section
set_option maxRecDepth 100000
/-! THE CONSTRUCTORS, and the rows of the law's own walk -/
def pk9 {α : Type} (x0 x1 x2 x3 x4 x5 x6 x7 x8 : α) : Nat → α := fun k => match k with
  | 0 => x0
  | 1 => x1
  | 2 => x2
  | 3 => x3
  | 4 => x4
  | 5 => x5
  | 6 => x6
  | 7 => x7
  | _ => x8
def s0 : gS := fun _ _ => 0
/-- an object with its fields still empty -/
def e0 (h : Nat) : va_W := [(h, .inr (0, [.null, .null, .null, .null, .int 0, .null, .null, .null, .null]))]
def e1 (h : Nat) : va_W := [(h, .inr (1, [.null, .null, .null, .null, .null, .null]))]
def WI (D : va_G) (tyf : (Nat → ClassId) → List (ClassId × FieldType)) (wf : (Nat → Nat) → (Nat → ClassId) → gS → va_W) (A : Nat → Prop) (u : (Nat → Nat) × (Nat → ClassId)) (t : State) : Prop := va_P D vwCl (wf u.1 u.2 s0) t.heap ∧ va_K D vwCl (tyf u.2) t ∧ va_D A (wf u.1 u.2 s0)
/-- a constructor's contract: k cells of n slots come -/
def ConI (l : Launch) (D : va_G) (tyf : (Nat → ClassId) → List (ClassId × FieldType)) (wf : (Nat → Nat) → (Nat → ClassId) → gS → va_W) (we : Nat → va_W) (y : MethodName) (b : ByteArray) (k n : Nat) (h : Nat) : Prop := ∀ sz : Nat, Met l y (ws_ y b 1 none) { frames := 1, cells := k, slots := n, locals := 12 } (va_Pc [.ref h] (fun U => U.heap.size = sz ∧ va_P D vwCl (we h) U.heap ∧ va_K D vwCl [] U ∧ va_D (fun _ => True) (we h))) (va_Qv (fun u : (Nat → Nat) × (Nat → ClassId) => u.1 0 = h) (WI D tyf wf (va_A (we h) sz)) (va_A (we h) sz)) k n (va_A (we h) sz)
def gN (D : va_G) (tyf : (Nat → ClassId) → List (ClassId × FieldType)) (wf : (Nat → Nat) → (Nat → ClassId) → gS → va_W) (we : Nat → va_W) (k n h sz : Nat) : gC := fun _ _ s _ args below meth _ Q A => args = #[.ref h] ∧ meth.sig.returnType = none ∧ meth.name = "<init>" ∧ s.heap.size = sz ∧ A = va_A (we h) sz ∧ Q = MQ below (va_Qv (fun u : (Nat → Nat) × (Nat → ClassId) => u.1 0 = h) (WI D tyf wf (va_A (we h) sz)) (va_A (we h) sz)) #[.ref h] s k n (va_A (we h) sz)
section INIT
variable {l : Launch} {R : Room} {kc ks : Nat} {cc : ByteArray} {nL : Nat} {own : String} {D : va_G} {tys : List (ClassId × FieldType)} {Γ : gC} {ws : va_W} {pc : Nat} {lv : List (Option Value)} {st : List Value}
variable {tyf : (Nat → ClassId) → List (ClassId × FieldType)} {wf : (Nat → Nat) → (Nat → ClassId) → gS → va_W} {we : Nat → va_W}
theorem g_oinit {a idx : Nat} (hw : Cond.methodLink own idx Lib.objectInit ∈ lw_all) (hd : decode cc pc = .ok (.invokespecial idx, 3)) (hf : 1 ≤ R.frames) (hloc : (st.map fun v => v.category).sum + 12 ≤ R.locals) (kk : G l R kc ks cc nL own D tys Γ ws (pc + 3) lv st) : G l R kc ks cc nL own D tys Γ ws pc lv (.ref a :: st) := by
  intro p e s m args below meth c Q A H locs ls X hP hD hS hl
  refine W.objInit X.1 X.2.1 X.2.2.2.1 (X.2.2.2.2.1 _ hw) (X.2.2.2.2.1 _ q30) (X.2.2.2.2.1 _ q31) rfl (by rw [X.2.2.1]; exact hl.1) rfl hd hf (by show 2 * 0 + _ + 12 ≤ _; rw [Nat.mul_zero, Nat.zero_add]; exact hloc) ?_
  exact W.eq (g2 := F0 m (pc + 3) ls st) rfl (kk p e s m args below meth c Q A H locs ls X hP hD hS hl)
theorem ConI.of {y : MethodName} {b : ByteArray} {k n h : Nat} (hy : plainName y.cls = true) (hnm : y.name = "<init>") (ho : y.cls = own) (hh : ∀ sz : Nat, G l { frames := 1, cells := k, slots := n, locals := 12 } 0 0 b 1 own D [] (gN D tyf wf we k n h sz) (we h) 0 [some (.ref h)] []) : ConI l D tyf wf we y b k n h := by
  intro sz
  refine Met.ofW (cc := b) (maxL := 1) (ret := none) hy rfl ?_
  intro p e s m args below meth c s₁ B hml hv
  obtain ⟨rfl, hsz, hP, hK, hD0⟩ := hv
  have hts := atoms_spec (ws := ws_ y b 1 none) B.pre
  have hts : ∀ w ∈ lw_all, w.before _ s = true := fun w h => hts w (List.mem_cons_of_mem _ h)
  have hown : s.vm.findClass y.cls = some m.cls := findClass_of_methodNamed B.named
  rw [ho] at hown
  have hin : meth.name = "<init>" := (name_of_methodNamed B.named B.method).1.trans hnm
  subst hsz
  have hl0 := lv_entry ([.ref h] : List Value) (n := 1) (Nat.le_of_ble_eq_true rfl)
  rw [lg_entry_eq]
  exact hh s.heap.size p e s m #[.ref h] below meth c _ (va_A (we h) s.heap.size) s.heap [] _ ⟨B.exec, B.bytes, hml, hown, hts, B.notSynchronized, hK, fun q h => Or.inr h, rfl, B.returns, hin, rfl, rfl, rfl⟩ hP hD0.self va_S.rf (lvl_entry (av := [.ref h]) hl0 (by simp [Value.category]) (Nat.le_refl 1))
theorem g_nret {k n h sz : Nat} (hd : decode cc pc = .ok (.return_, 1)) (u : (Nat → Nat) × (Nat → ClassId)) (hu : u.1 0 = h) (hc : kc = k) (hs : ks = n) (hw : ws = wf u.1 u.2 s0) (ht : tys = tyf u.2) : G l R kc ks cc nL own D tys (gN D tyf wf we k n h sz) ws pc lv [] := by
  intro p e s m args below meth c Q A H locs ls X hP hD hS hl
  obtain ⟨hx, hb, hml, hown, hts, hlk, hK, hA, rfl, hr, hin, hsz, rfl, rfl⟩ := X
  subst hc
  subst hs
  subst hw
  subst ht
  exact W.vret hx hb hr (fun t ht hW => ⟨⟨u, rfl, hu, by rw [ht]; exact hP, va_K.moved hW.alike hK, hD⟩, hS.F ht⟩) hS.2.2 hd hlk
end INIT
section INIT2
variable {l : Launch} {D : va_G}
theorem gN_in {D : va_G} {tyf : (Nat → ClassId) → List (ClassId × FieldType)} {wf : (Nat → Nat) → (Nat → ClassId) → gS → va_W} {we : Nat → va_W} {k n h sz : Nat} : ∀ (p : Program) (e : Env) (s : State) (m : MethodId) (args : Array Value) (below : List Frame) (meth : Method) (c : Code) (Q : State → Prop) (A : Nat → Prop), gN D tyf wf we k n h sz p e s m args below meth c Q A → meth.name = "<init>" := fun _ _ _ _ _ _ _ _ _ _ h => h.2.2.1
set_option maxHeartbeats 4000000 in
theorem mI_0 (h : Nat) : ConI l D ty0 w0 e0 yX0_init cX0_init 8 161 h := by
  refine ConI.of (own := RX0) (by decide) rfl rfl (fun sz => ?_)
  refine g_al0 dX0_init_0 ?_
  refine g_oinit q29 dX0_init_1 (Nat.le_refl 1) (Nat.le_of_ble_eq_true rfl) ?_
  refine g_al0 dX0_init_4 ?_
  refine g_iconst (v := nI 3) dX0_init_5 rfl ?_
  refine g_newa (atype := .byte) (ty := .byte) q60 rfl rfl dX0_init_6 (by decide) (by decide) (Nat.le_of_ble_eq_true rfl) (Nat.le_of_ble_eq_true rfl) (fun q1 c1 => ?_)
  refine g_putF (C := RX0) (T := TX0) (N := 9) (ci := 0) (ty := .array .byte) (ws' := [(h, .inr (0, [.ref q1, .null, .null, .null, .int 0, .null, .null, .null, .null])), (q1, .inl (c1, 3, .inl (fun _ => 0)))]) gN_in in_X0 tyX0_ok nmX0 0 rfl rfl 0 (by decide) q32 rfl rfl (by decide +kernel) rfl rfl (Nat.le_of_ble_eq_true rfl) dX0_init_8 rfl ?_
  refine g_al0 dX0_init_11 ?_
  refine g_bipush (v := nI 30) dX0_init_12 rfl ?_
  refine g_newa (atype := .byte) (ty := .byte) q60 rfl rfl dX0_init_14 (by decide) (by decide) (Nat.le_of_ble_eq_true rfl) (Nat.le_of_ble_eq_true rfl) (fun q2 c2 => ?_)
  refine g_putF (C := RX0) (T := TX0) (N := 9) (ci := 0) (ty := .array .byte) (ws' := [(h, .inr (0, [.ref q1, .ref q2, .null, .null, .int 0, .null, .null, .null, .null])), (q1, .inl (c1, 3, .inl (fun _ => 0))), (q2, .inl (c2, 30, .inl (fun _ => 0)))]) gN_in in_X0 tyX0_ok nmX0 0 rfl rfl 1 (by decide) q33 rfl rfl (by decide +kernel) rfl rfl (Nat.le_of_ble_eq_true rfl) dX0_init_16 rfl ?_
  refine g_al0 dX0_init_19 ?_
  refine g_bipush (v := nI 30) dX0_init_20 rfl ?_
  refine g_newa (atype := .byte) (ty := .byte) q60 rfl rfl dX0_init_22 (by decide) (by decide) (Nat.le_of_ble_eq_true rfl) (Nat.le_of_ble_eq_true rfl) (fun q3 c3 => ?_)
  refine g_putF (C := RX0) (T := TX0) (N := 9) (ci := 0) (ty := .array .byte) (ws' := [(h, .inr (0, [.ref q1, .ref q2, .ref q3, .null, .int 0, .null, .null, .null, .null])), (q1, .inl (c1, 3, .inl (fun _ => 0))), (q2, .inl (c2, 30, .inl (fun _ => 0))), (q3, .inl (c3, 30, .inl (fun _ => 0)))]) gN_in in_X0 tyX0_ok nmX0 0 rfl rfl 2 (by decide) q34 rfl rfl (by decide +kernel) rfl rfl (Nat.le_of_ble_eq_true rfl) dX0_init_24 rfl ?_
  refine g_al0 dX0_init_27 ?_
  refine g_bipush (v := nI 30) dX0_init_28 rfl ?_
  refine g_newa (atype := .int) (ty := .int) q61 rfl rfl dX0_init_30 (by decide) (by decide) (Nat.le_of_ble_eq_true rfl) (Nat.le_of_ble_eq_true rfl) (fun q4 c4 => ?_)
  refine g_putF (C := RX0) (T := TX0) (N := 9) (ci := 0) (ty := .array .int) (ws' := [(h, .inr (0, [.ref q1, .ref q2, .ref q3, .ref q4, .int 0, .null, .null, .null, .null])), (q1, .inl (c1, 3, .inl (fun _ => 0))), (q2, .inl (c2, 30, .inl (fun _ => 0))), (q3, .inl (c3, 30, .inl (fun _ => 0))), (q4, .inl (c4, 30, .inl (fun _ => 0)))]) gN_in in_X0 tyX0_ok nmX0 0 rfl rfl 3 (by decide) q35 rfl rfl (by decide +kernel) rfl rfl (Nat.le_of_ble_eq_true rfl) dX0_init_32 rfl ?_
  refine g_al0 dX0_init_35 ?_
  refine g_bipush (v := nI 18) dX0_init_36 rfl ?_
  refine g_newa (atype := .byte) (ty := .byte) q60 rfl rfl dX0_init_38 (by decide) (by decide) (Nat.le_of_ble_eq_true rfl) (Nat.le_of_ble_eq_true rfl) (fun q5 c5 => ?_)
  refine g_putF (C := RX0) (T := TX0) (N := 9) (ci := 0) (ty := .array .byte) (ws' := [(h, .inr (0, [.ref q1, .ref q2, .ref q3, .ref q4, .int 0, .ref q5, .null, .null, .null])), (q1, .inl (c1, 3, .inl (fun _ => 0))), (q2, .inl (c2, 30, .inl (fun _ => 0))), (q3, .inl (c3, 30, .inl (fun _ => 0))), (q4, .inl (c4, 30, .inl (fun _ => 0))), (q5, .inl (c5, 18, .inl (fun _ => 0)))]) gN_in in_X0 tyX0_ok nmX0 0 rfl rfl 5 (by decide) q37 rfl rfl (by decide +kernel) rfl rfl (Nat.le_of_ble_eq_true rfl) dX0_init_40 rfl ?_
  refine g_al0 dX0_init_43 ?_
  refine g_bipush (v := nI 17) dX0_init_44 rfl ?_
  refine g_newa (atype := .int) (ty := .int) q61 rfl rfl dX0_init_46 (by decide) (by decide) (Nat.le_of_ble_eq_true rfl) (Nat.le_of_ble_eq_true rfl) (fun q6 c6 => ?_)
  refine g_putF (C := RX0) (T := TX0) (N := 9) (ci := 0) (ty := .array .int) (ws' := [(h, .inr (0, [.ref q1, .ref q2, .ref q3, .ref q4, .int 0, .ref q5, .ref q6, .null, .null])), (q1, .inl (c1, 3, .inl (fun _ => 0))), (q2, .inl (c2, 30, .inl (fun _ => 0))), (q3, .inl (c3, 30, .inl (fun _ => 0))), (q4, .inl (c4, 30, .inl (fun _ => 0))), (q5, .inl (c5, 18, .inl (fun _ => 0))), (q6, .inl (c6, 17, .inl (fun _ => 0)))]) gN_in in_X0 tyX0_ok nmX0 0 rfl rfl 6 (by decide) q38 rfl rfl (by decide +kernel) rfl rfl (Nat.le_of_ble_eq_true rfl) dX0_init_48 rfl ?_
  refine g_al0 dX0_init_51 ?_
  refine g_bipush (v := nI 17) dX0_init_52 rfl ?_
  refine g_newa (atype := .int) (ty := .int) q61 rfl rfl dX0_init_54 (by decide) (by decide) (Nat.le_of_ble_eq_true rfl) (Nat.le_of_ble_eq_true rfl) (fun q7 c7 => ?_)
  refine g_putF (C := RX0) (T := TX0) (N := 9) (ci := 0) (ty := .array .int) (ws' := [(h, .inr (0, [.ref q1, .ref q2, .ref q3, .ref q4, .int 0, .ref q5, .ref q6, .ref q7, .null])), (q1, .inl (c1, 3, .inl (fun _ => 0))), (q2, .inl (c2, 30, .inl (fun _ => 0))), (q3, .inl (c3, 30, .inl (fun _ => 0))), (q4, .inl (c4, 30, .inl (fun _ => 0))), (q5, .inl (c5, 18, .inl (fun _ => 0))), (q6, .inl (c6, 17, .inl (fun _ => 0))), (q7, .inl (c7, 17, .inl (fun _ => 0)))]) gN_in in_X0 tyX0_ok nmX0 0 rfl rfl 7 (by decide) q39 rfl rfl (by decide +kernel) rfl rfl (Nat.le_of_ble_eq_true rfl) dX0_init_56 rfl ?_
  refine g_al0 dX0_init_59 ?_
  refine g_bipush (v := nI 16) dX0_init_60 rfl ?_
  refine g_newa (atype := .int) (ty := .int) q61 rfl rfl dX0_init_62 (by decide) (by decide) (Nat.le_of_ble_eq_true rfl) (Nat.le_of_ble_eq_true rfl) (fun q8 c8 => ?_)
  refine g_putF (C := RX0) (T := TX0) (N := 9) (ci := 0) (ty := .array .int) (ws' := [(h, .inr (0, [.ref q1, .ref q2, .ref q3, .ref q4, .int 0, .ref q5, .ref q6, .ref q7, .ref q8])), (q1, .inl (c1, 3, .inl (fun _ => 0))), (q2, .inl (c2, 30, .inl (fun _ => 0))), (q3, .inl (c3, 30, .inl (fun _ => 0))), (q4, .inl (c4, 30, .inl (fun _ => 0))), (q5, .inl (c5, 18, .inl (fun _ => 0))), (q6, .inl (c6, 17, .inl (fun _ => 0))), (q7, .inl (c7, 17, .inl (fun _ => 0))), (q8, .inl (c8, 16, .inl (fun _ => 0)))]) gN_in in_X0 tyX0_ok nmX0 0 rfl rfl 8 (by decide) q40 rfl rfl (by decide +kernel) rfl rfl (Nat.le_of_ble_eq_true rfl) dX0_init_64 rfl ?_
  exact g_nret dX0_init_67 (pk9 h q1 q2 q3 q4 q5 q6 q7 q8, pk9 c1 c1 c2 c3 c4 c5 c6 c7 c8) rfl rfl rfl rfl rfl
set_option maxHeartbeats 4000000 in
theorem mI_1 (h : Nat) : ConI l D ty1 w1 e1 yX1_init cX1_init 6 379 h := by
  refine ConI.of (own := RX1) (by decide) rfl rfl (fun sz => ?_)
  refine g_al0 dX1_init_0 ?_
  refine g_oinit q157 dX1_init_1 (Nat.le_refl 1) (Nat.le_of_ble_eq_true rfl) ?_
  refine g_al0 dX1_init_4 ?_
  refine g_iconst (v := nI 3) dX1_init_5 rfl ?_
  refine g_newa (atype := .int) (ty := .int) q61 rfl rfl dX1_init_6 (by decide) (by decide) (Nat.le_of_ble_eq_true rfl) (Nat.le_of_ble_eq_true rfl) (fun q1 c1 => ?_)
  refine g_put (C := RX1) (T := TX1) (N := 6) (ci := 1) (ty := .array .int) (ws' := [(h, .inr (1, [.ref q1, .null, .null, .null, .null, .null])), (q1, .inl (c1, 3, .inl (fun _ => 0)))]) in_X1 tyX1_ok nmX1 0 rfl rfl 0 (by decide) q158 rfl (by decide +kernel) rfl rfl (Nat.le_of_ble_eq_true rfl) dX1_init_8 rfl ?_
  refine g_al0 dX1_init_11 ?_
  refine g_bipush (v := nI 30) dX1_init_12 rfl ?_
  refine g_newa (atype := .int) (ty := .int) q61 rfl rfl dX1_init_14 (by decide) (by decide) (Nat.le_of_ble_eq_true rfl) (Nat.le_of_ble_eq_true rfl) (fun q2 c2 => ?_)
  refine g_put (C := RX1) (T := TX1) (N := 6) (ci := 1) (ty := .array .int) (ws' := [(h, .inr (1, [.ref q1, .ref q2, .null, .null, .null, .null])), (q1, .inl (c1, 3, .inl (fun _ => 0))), (q2, .inl (c2, 30, .inl (fun _ => 0)))]) in_X1 tyX1_ok nmX1 0 rfl rfl 1 (by decide) q159 rfl (by decide +kernel) rfl rfl (Nat.le_of_ble_eq_true rfl) dX1_init_16 rfl ?_
  refine g_al0 dX1_init_19 ?_
  refine g_bipush (v := nI 30) dX1_init_20 rfl ?_
  refine g_newa (atype := .int) (ty := .int) q61 rfl rfl dX1_init_22 (by decide) (by decide) (Nat.le_of_ble_eq_true rfl) (Nat.le_of_ble_eq_true rfl) (fun q3 c3 => ?_)
  refine g_put (C := RX1) (T := TX1) (N := 6) (ci := 1) (ty := .array .int) (ws' := [(h, .inr (1, [.ref q1, .ref q2, .ref q3, .null, .null, .null])), (q1, .inl (c1, 3, .inl (fun _ => 0))), (q2, .inl (c2, 30, .inl (fun _ => 0))), (q3, .inl (c3, 30, .inl (fun _ => 0)))]) in_X1 tyX1_ok nmX1 0 rfl rfl 2 (by decide) q160 rfl (by decide +kernel) rfl rfl (Nat.le_of_ble_eq_true rfl) dX1_init_24 rfl ?_
  refine g_al0 dX1_init_27 ?_
  refine g_bipush (v := nI 30) dX1_init_28 rfl ?_
  refine g_newa (atype := .int) (ty := .int) q61 rfl rfl dX1_init_30 (by decide) (by decide) (Nat.le_of_ble_eq_true rfl) (Nat.le_of_ble_eq_true rfl) (fun q4 c4 => ?_)
  refine g_put (C := RX1) (T := TX1) (N := 6) (ci := 1) (ty := .array .int) (ws' := [(h, .inr (1, [.ref q1, .ref q2, .ref q3, .ref q4, .null, .null])), (q1, .inl (c1, 3, .inl (fun _ => 0))), (q2, .inl (c2, 30, .inl (fun _ => 0))), (q3, .inl (c3, 30, .inl (fun _ => 0))), (q4, .inl (c4, 30, .inl (fun _ => 0)))]) in_X1 tyX1_ok nmX1 0 rfl rfl 3 (by decide) q161 rfl (by decide +kernel) rfl rfl (Nat.le_of_ble_eq_true rfl) dX1_init_32 rfl ?_
  refine g_al0 dX1_init_35 ?_
  refine g_bipush (v := nI 30) dX1_init_36 rfl ?_
  refine g_newa (atype := .int) (ty := .int) q61 rfl rfl dX1_init_38 (by decide) (by decide) (Nat.le_of_ble_eq_true rfl) (Nat.le_of_ble_eq_true rfl) (fun q5 c5 => ?_)
  refine g_put (C := RX1) (T := TX1) (N := 6) (ci := 1) (ty := .array .int) (ws' := [(h, .inr (1, [.ref q1, .ref q2, .ref q3, .ref q4, .ref q5, .null])), (q1, .inl (c1, 3, .inl (fun _ => 0))), (q2, .inl (c2, 30, .inl (fun _ => 0))), (q3, .inl (c3, 30, .inl (fun _ => 0))), (q4, .inl (c4, 30, .inl (fun _ => 0))), (q5, .inl (c5, 30, .inl (fun _ => 0)))]) in_X1 tyX1_ok nmX1 0 rfl rfl 4 (by decide) q162 rfl (by decide +kernel) rfl rfl (Nat.le_of_ble_eq_true rfl) dX1_init_40 rfl ?_
  refine g_al0 dX1_init_43 ?_
  refine g_sipush (v := nI 256) dX1_init_44 rfl ?_
  refine g_newa (atype := .boolean) (ty := .boolean) q177 rfl rfl dX1_init_47 (by decide) (by decide) (Nat.le_of_ble_eq_true rfl) (Nat.le_of_ble_eq_true rfl) (fun q6 c6 => ?_)
  refine g_put (C := RX1) (T := TX1) (N := 6) (ci := 1) (ty := .array .boolean) (ws' := [(h, .inr (1, [.ref q1, .ref q2, .ref q3, .ref q4, .ref q5, .ref q6])), (q1, .inl (c1, 3, .inl (fun _ => 0))), (q2, .inl (c2, 30, .inl (fun _ => 0))), (q3, .inl (c3, 30, .inl (fun _ => 0))), (q4, .inl (c4, 30, .inl (fun _ => 0))), (q5, .inl (c5, 30, .inl (fun _ => 0))), (q6, .inl (c6, 256, .inl (fun _ => 0)))]) in_X1 tyX1_ok nmX1 0 rfl rfl 5 (by decide) q163 rfl (by decide +kernel) rfl rfl (Nat.le_of_ble_eq_true rfl) dX1_init_49 rfl ?_
  exact g_nret dX1_init_52 (pk9 h q1 q2 q3 q4 q5 q6 h h, pk9 c1 c1 c2 c3 c4 c5 c6 c1 c1) rfl rfl rfl rfl rfl
end INIT2
end
section
set_option maxRecDepth 100000
/-! THE CLAIM OUT OF ONE WALK OF THE LAW'S BODY. Your part is whole_start (and what it stands on); all else here is the same for every law, but numbers. -/
def R_law : String := "DrcScanLaw"
def lw_P (b : Addr) (xs : List Int32) (args : Array Value) (s : State) : Prop := args = #[.ref b] ∧ s.IntsAt b xs ∧ xs.length ≤ 256 ∧ (Jvm.Cond.and given_1 narrow_1).before args s = true
def lw_Q (_ : Array Value) (s : State) (o : Outcome) (t : State) : Prop := o = .returned (some (.int 1)) ∧ Framed s o t [] 600000 7290000
def lw_Z (below : List Frame) (a : Array Value) (s : State) : State → Prop := fun t => ∃ o, t.status = .running ∧ Ended t below o ∧ lw_Q a s o t
/-- the law's own end, with 1 on the stack, nothing written that was there before, its room as the claim has it -/
theorem lw_ret {p : Program} {l : Launch} {e : Env} {s : State} {m : MethodId} {below : List Frame} {meth : Method} {c : Code} {b : Nat} (hx : p.tables.exec = Jvm.exec) (hb : c.code = code) (hr : meth.sig.returnType = ret) (hlocks : meth.locks = false) {pc : Nat} {H : Heap} {ls : Array Slot} (hdg : decode code pc = .ok (.ireturn, 1)) : W p l e room_1 s m #[Value.ref b] below meth c H [] 600000 7290000 (lw_Z below #[Value.ref b] s) (F0 m pc ls [.int 1]) := by
  intro T hT X
  obtain ⟨fs, hret, hrun, hended, hW, hframe⟩ := X.leave (v := some (.int 1)) (hlocks := hlocks) (fun h => by rw [hr] at h; cases h)
  have hmeth' : T.vm.method? m = some meth := X.method'
  refine ⟨T.setFrames fs, ?_, .returned (some (.int 1)), hrun, hended, rfl, ⟨_, rfl⟩, hW, hframe⟩
  jvm_step X.here [X.here.top, hx, hb, hdg, hmeth', hr, ret, narrow_b1]
  (try refine ⟨rfl, ?_⟩); (try refine ⟨rfl, ?_⟩)
  first | (intro acts; rw [hret _ acts rfl rfl rfl]) | rw [hret _ _ rfl rfl rfl]
  exact Steps.refl _
/-- what holds at the law's entry: the machine, the code, the tables' words (any of lw_tbl by 'hts w (by decide +kernel)'), the script of L ints xs at the cell b, what the Statement gives of the start (any of its parts by flat_of_before) -/
def lw_At (p : Program) (s : State) (m : MethodId) (meth : Method) (c : Code) (b L : Nat) (xs : Nat → Int32) : Prop :=
  p.tables.exec = Jvm.exec ∧ c.code = code ∧ meth.sig.returnType = ret ∧ c.maxLocals = 4 ∧ s.vm.findClass R_law = some m.cls ∧ (∀ w ∈ lw_tbl, w.before #[Value.ref b] s = true) ∧ va_X b L xs s s.heap ∧ b < s.heap.size ∧ meth.locks = false ∧ (Jvm.Cond.and given_1 narrow_1).before #[Value.ref b] s = true

/-! worlds side by side -/
theorem P_l {D : va_G} {cl : List vw_C} {a b : va_W} {H : Heap} (h : va_P D cl (a ++ b) H) : va_P D cl a H := fun k q hk => h k q (by rw [List.getElem?_append_left (List.getElem?_eq_some_iff.mp hk).1]; exact hk)
theorem P_r {D : va_G} {cl : List vw_C} {a b : va_W} {H : Heap} (h : va_P D cl (a ++ b) H) : va_P D cl b H := fun k q hk => h (a.length + k) q (by rw [List.getElem?_append_right (Nat.le_add_right _ _), Nat.add_sub_cancel_left]; exact hk)
theorem D_l {A : Nat → Prop} {a b : va_W} (h : va_D A (a ++ b)) : va_D A a := ⟨fun i j p q hp hq e => h.1 i j p q (by rw [List.getElem?_append_left (List.getElem?_eq_some_iff.mp hp).1]; exact hp) (by rw [List.getElem?_append_left (List.getElem?_eq_some_iff.mp hq).1]; exact hq) e, fun k q hk => h.2 k q (by rw [List.getElem?_append_left (List.getElem?_eq_some_iff.mp hk).1]; exact hk)⟩
theorem D_r {A : Nat → Prop} {a b : va_W} (h : va_D A (a ++ b)) : va_D A b := ⟨fun i j p q hp hq e => by
  have := h.1 (a.length + i) (a.length + j) p q (by rw [List.getElem?_append_right (Nat.le_add_right _ _), Nat.add_sub_cancel_left]; exact hp) (by rw [List.getElem?_append_right (Nat.le_add_right _ _), Nat.add_sub_cancel_left]; exact hq) e
  omega, fun k q hk => h.2 (a.length + k) q (by rw [List.getElem?_append_right (Nat.le_add_right _ _), Nat.add_sub_cancel_left]; exact hk)⟩
theorem D_x {A : Nat → Prop} {a b : va_W} (h : va_D A (a ++ b)) {i j : Nat} {p q : Nat × va_E} (hp : a[i]? = some p) (hq : b[j]? = some q) : p.1 ≠ q.1 := by
  intro e
  have hi := (List.getElem?_eq_some_iff.mp hp).1
  have := h.1 i (a.length + j) p q (by rw [List.getElem?_append_left hi]; exact hp) (by rw [List.getElem?_append_right (Nat.le_add_right _ _), Nat.add_sub_cancel_left]; exact hq) e
  omega
theorem K_l {D : va_G} {cl : List vw_C} {a b : List (ClassId × FieldType)} {U : State} (h : va_K D cl (a ++ b) U) : va_K D cl a U := ⟨h.1, fun k q hk => h.2 k q (by rw [List.getElem?_append_left (List.getElem?_eq_some_iff.mp hk).1]; exact hk)⟩
theorem K_r {D : va_G} {cl : List vw_C} {a b : List (ClassId × FieldType)} {U : State} (h : va_K D cl (a ++ b) U) : va_K D cl b U := ⟨h.1, fun k q hk => h.2 (a.length + k) q (by rw [List.getElem?_append_right (Nat.le_add_right _ _), Nat.add_sub_cancel_left]; exact hk)⟩
theorem w_joinR {A : Nat → Prop} {D : va_G} {cl : List vw_C} {a c c' : va_W} {H H1 : Heap} (hP : va_P D cl (a ++ c) H) (hD : va_D A (a ++ c)) (hk : ∀ q : Nat, q < H.size → ¬ va_A c H.size q → H1[q]? = H[q]?) (hF : ∀ q, va_A c H.size q → A q) (hP1 : va_P D cl c' H1) (hD1 : va_D (va_A c H.size) c') : va_P D cl (a ++ c') H1 ∧ va_D A (a ++ c') := by
  have apart : ∀ (k : Nat) (q : Nat × va_E), a[k]? = some q → q.1 < H.size ∧ ¬ va_A c H.size q.1 := by
    intro k q hq
    have hl := (P_l hP k q hq).lt
    refine ⟨hl, fun h => ?_⟩
    rcases h with ⟨k2, e, h⟩ | h
    · exact D_x hD hq h rfl
    · omega
  refine ⟨va_P.app (fun k q hq => ?_) hP1, va_D.app (D_l hD) (hD1.weaken (fun k q _ h => hF q.1 h)) (fun i j x y hx hy e => (apart i x hx).2 (by rw [e]; exact hD1.2 j y hy))⟩
  obtain ⟨g1, g2⟩ := apart k q hq
  exact (P_l hP k q hq).kept (hk q.1 g1 g2)
theorem w_joinL {A : Nat → Prop} {D : va_G} {cl : List vw_C} {a c c' : va_W} {H H1 : Heap} (hP : va_P D cl (c ++ a) H) (hD : va_D A (c ++ a)) (hk : ∀ q : Nat, q < H.size → ¬ va_A c H.size q → H1[q]? = H[q]?) (hF : ∀ q, va_A c H.size q → A q) (hP1 : va_P D cl c' H1) (hD1 : va_D (va_A c H.size) c') : va_P D cl (c' ++ a) H1 ∧ va_D A (c' ++ a) := by
  have apart : ∀ (k : Nat) (q : Nat × va_E), a[k]? = some q → q.1 < H.size ∧ ¬ va_A c H.size q.1 := by
    intro k q hq
    have hl := (P_r hP k q hq).lt
    refine ⟨hl, fun h => ?_⟩
    rcases h with ⟨k2, e, h⟩ | h
    · exact D_x hD h hq rfl
    · omega
  refine ⟨va_P.app hP1 (fun k q hq => ?_), va_D.app (hD1.weaken (fun k q _ h => hF q.1 h)) (D_r hD) (fun i j x y hx hy e => (apart j y hy).2 (by rw [← e]; exact hD1.2 i x hx))⟩
  obtain ⟨g1, g2⟩ := apart k q hq
  exact (P_r hP k q hq).kept (hk q.1 g1 g2)
/-- the law's context -/
def gL (b L : Nat) (xs : Nat → Int32) : gC := fun _ _ s _ args below meth _ Q A => args = #[.ref b] ∧ meth.sig.returnType = ret ∧ va_X b L xs s s.heap ∧ b < s.heap.size ∧ A = (fun q : Nat => s.heap.size ≤ q) ∧ Q = lw_Z below #[.ref b] s
section GLAW
variable {l : Launch} {R : Room} {kc ks : Nat} {cc : ByteArray} {nL : Nat} {own : String} {D : va_G} {tys : List (ClassId × FieldType)} {Γ : gC} {ws : va_W} {pc : Nat} {lv : List (Option Value)} {st : List Value} {b L : Nat} {xs : Nat → Int32}
theorem g_widen {k n : Nat} (h1 : kc ≤ k) (h2 : ks ≤ n) (kk : G l R k n cc nL own D tys Γ ws pc lv st) : G l R kc ks cc nL own D tys Γ ws pc lv st := fun p e s m args below meth c Q A H locs ls X hP hD hS hl => W.widen h1 h2 (kk p e s m args below meth c Q A H locs ls X hP hD hS hl)
theorem g_sld {i : Nat} (hd : decode cc pc = .ok (.iaload, 1)) (hi : i < L) (hL : L < 2 ^ 31) (kk : G l R kc ks cc nL own D tys (gL b L xs) ws (pc + 1) lv (.int (xs i) :: st)) : G l R kc ks cc nL own D tys (gL b L xs) ws pc lv (.int (nI i) :: .ref b :: st) := by
  intro p e s m args below meth c Q A H locs ls X hP hD hS hl
  obtain ⟨h1, h2, h3, h4, h5, h6⟩ := X.2.2.2.2.2.2.2.2
  refine va_sld X.1 X.2.1 h3 h4 (by rw [h5]; exact Nat.not_le.mpr h4) hS (vp_in_nI hi hL) hd ?_
  rw [nI_clamp (Nat.lt_trans hi hL)]
  exact kk p e s m args below meth c Q A H locs ls X hP hD hS hl
theorem g_slen (hd : decode cc pc = .ok (.arraylength, 1)) (kk : G l R kc ks cc nL own D tys (gL b L xs) ws (pc + 1) lv (.int (nI L) :: st)) : G l R kc ks cc nL own D tys (gL b L xs) ws pc lv (.ref b :: st) := by
  intro p e s m args below meth c Q A H locs ls X hP hD hS hl
  obtain ⟨h1, h2, h3, h4, h5, h6⟩ := X.2.2.2.2.2.2.2.2
  exact va_slen X.1 X.2.1 h3 h4 (by rw [h5]; exact Nat.not_le.mpr h4) hS hd (kk p e s m args below meth c Q A H locs ls X hP hD hS hl)
theorem g_tabIn {dflt lo hi off : Int} {offs : Array Int} {len tgt : Nat} {x : Int32} (hd : decode cc pc = .ok (.tableswitch dflt lo hi offs, len)) (h1 : ¬ x.toInt < lo) (h2 : ¬ hi < x.toInt) (ho : offs[(x.toInt - lo).toNat]? = some off) (ht : (pc : Int) + off = (tgt : Int)) (kk : G l R kc ks cc nL own D tys Γ ws tgt lv st) : G l R kc ks cc nL own D tys Γ ws pc lv (.int x :: st) := g_pure (fun _ _ _ _ _ _ _ _ _ _ _ _ hx hb k => lv_tableIn hx hb hd h1 h2 ho ht k) kk
theorem g_tabOut {dflt lo hi : Int} {offs : Array Int} {len tgt : Nat} {x : Int32} (hd : decode cc pc = .ok (.tableswitch dflt lo hi offs, len)) (h : x.toInt < lo ∨ hi < x.toInt) (ht : (pc : Int) + dflt = (tgt : Int)) (kk : G l R kc ks cc nL own D tys Γ ws tgt lv st) : G l R kc ks cc nL own D tys Γ ws pc lv (.int x :: st) := g_pure (fun _ _ _ _ _ _ _ _ _ _ _ _ hx hb k => lv_tableOut hx hb hd h ht k) kk
theorem g_new {C : String} {T : u_T} {N ci index : Nat} {fs : List Value} {ty : Nat → FieldType} (hin : ∀ w ∈ u_ws C T N, w ∈ lw_all) (hty : ∀ k, k < N → parseFieldDescriptor (T k).2.2.1 = some (ty k)) (hcl : Cond.classLink own index C ∈ lw_all) (hinst : Cond.instantiable C N ∈ lw_all) (hini : Cond.initialized C ∈ lw_all) (hc : vwCl[ci]? = some (C, T, N)) (hfs : ∀ j, j < N → defaultValue (ty j) = vp_V fs j) (hcells : kc + 1 ≤ R.cells) (hslots : ks + N ≤ R.slots) (hd : decode cc pc = .ok (.new index, 3)) (kk : ∀ q : Nat, G l R (kc + 1) (ks + N) cc nL own D tys Γ (ws ++ [(q, .inr (ci, fs))]) (pc + 3) lv (.ref q :: st)) : G l R kc ks cc nL own D tys Γ ws pc lv st :=
  fun p e s m args below meth c Q A H locs ls X hP hD hS hl => va_new X.1 X.2.1 X.2.2.2.2.1 hin ty hty X.2.2.2.1 (X.2.2.2.2.1 _ hcl) (X.2.2.2.2.1 _ hinst) (X.2.2.2.2.1 _ hini) X.2.2.2.2.2.2.1 hP hD hS X.2.2.2.2.2.2.2.1 hc hfs hcells hslots hd (fun q H1 hP1 hD1 hS1 => kk q p e s m args below meth c Q A H1 locs ls X hP1 hD1 hS1 hl)
/-- a constructor's call, on the last cell -/
theorem g_ctor {tyf : (Nat → ClassId) → List (ClassId × FieldType)} {wf : (Nat → Nat) → (Nat → ClassId) → gS → va_W} {we : Nat → va_W} {y : MethodName} {bc : ByteArray} {k n h index : Nat} {a : va_W} (hC : ConI l D tyf wf we y bc k n h) (hG : Cond.code y bc 1 none ∈ lw_all) (hini : Cond.initialized y.cls ∈ lw_all) (hlk : Cond.methodLink own index y ∈ lw_all) (hin : Cond.instanceMethod y ∈ lw_all) (hnm : y.name = "<init>") (hdesc : y.cls ≠ "java/lang/invoke/MethodHandle" ∧ y.cls ≠ "java/lang/invoke/VarHandle" ∧ (parseMethodDescriptor y.desc).map (fun d => d.parameters.length) = some 0) (hR : 1 + 1 ≤ R.frames ∧ 8 + (1 + 11) + 12 ≤ R.locals) (hcat : (st.map fun v => v.category).sum ≤ 8) (hk : kc + k ≤ R.cells) (hs : ks + n ≤ R.slots) (hd : decode cc pc = .ok (.invokespecial index, 3)) (kk : ∀ u : (Nat → Nat) × (Nat → ClassId), u.1 0 = h → G l R (kc + k) (ks + n) cc nL own D (tys ++ tyf u.2) Γ (a ++ wf u.1 u.2 s0) (pc + 3) lv st) : G l R kc ks cc nL own D tys Γ (a ++ we h) pc lv (.ref h :: st) := by
  intro p e s m args below meth c Q A H locs ls X hP hD hS hl
  have hK := X.2.2.2.2.2.2.1
  have hA := X.2.2.2.2.2.2.2.1
  have hFc : ∀ q : Nat, va_A (we h) H.size q → A q := by
    intro q hq
    rcases hq with ⟨k, e, hq⟩ | hq
    · exact (D_r hD).2 k (q, e) hq
    · exact hA q (Nat.le_trans hS.1 hq)
  refine va_callv (va_runI (As := []) (rest := st) ⟨X.1, X.2.1, X.2.2.1, X.2.2.2.1, X.2.2.2.2.1⟩ (hC H.size) (cwI 0 X.2.2.2.2.1 (lw_meth hG) rfl rfl rfl (X.2.2.2.2.1 _ hini) (X.2.2.2.2.1 _ hlk) (X.2.2.2.2.1 _ hin) hnm hdesc hR) ⟨fun a U g mk q => by obtain ⟨q0, q1, qP, qK, qD⟩ := q; exact ⟨q0, q1, qP, va_K.moved (u := U) (U := U.calling g mk a) (Vm.Alike.refl U.vm) qK, qD⟩, fun U hU hW => ⟨rfl, by rw [hU], by rw [hU]; exact P_r hP, va_K.moved hW.alike (hK.sub (tys' := []) [] rfl), (D_r hD).weaken (fun _ _ _ _ => trivial)⟩⟩ rfl rfl hl.1 rfl (lv_room hcat) hd ⟨hk, hs⟩) hS (fun q _ h => hFc q h) hFc (fun u t H1 locs1 ht hvm hw hB hz1 hk1 hS1 => ?_)
  obtain ⟨hP1, hK1, hD1⟩ := hB
  rw [ht] at hP1
  obtain ⟨hP2, hD2⟩ := w_joinR hP hD hk1 hFc hP1 hD1
  exact kk u hw p e s m args below meth c Q A H1 locs1 ls ⟨X.1, X.2.1, X.2.2.1, X.2.2.2.1, X.2.2.2.2.1, X.2.2.2.2.2.1, hK.app (va_K.moved hvm.symm hK1), X.2.2.2.2.2.2.2⟩ hP2 hD2 hS1 hl
variable {wf : gS → va_W} {y : MethodName} {bc : ByteArray} {Lc : Nat} {ty : FieldType} {rm : Room} {σ : gS} {t1 t2 : List (ClassId × FieldType)}
/-- a call on the object whose world stands first; second -/
theorem g_callL {post : Int32 → gS → Prop} {a n index ci N q0 : Nat} {As st0 : List Value} {Cn : String} {T : u_T} {fs : List Value} {wr : va_W} (hC : Con l D t1 wf y bc Lc ty rm (.ref a :: As) σ post) (hV : GoodIn lw_all (wsV own index Cn y (ws_ y bc Lc (some ty)))) (hcell : rm.cells = 0) (hslot : rm.slots = 0) (hdesc : y.cls = Cn ∧ y.cls ≠ "java/lang/invoke/MethodHandle" ∧ y.cls ≠ "java/lang/invoke/VarHandle" ∧ (parseMethodDescriptor y.desc).map (fun d => d.parameters.length) = some n) (hR : rm.frames + 1 ≤ R.frames ∧ 8 + (Lc + 11) + rm.locals ≤ R.locals) (hc : vwCl[ci]? = some (Cn, T, N)) (he : (wf σ)[q0]? = some (a, .inr (ci, fs))) (hn : As.length = n) (hst : st0 = As.reverse ++ .ref a :: st) (hcat : (st.map fun v => v.category).sum ≤ 8) (hk : kc ≤ R.cells) (hs : ks ≤ R.slots) (hd : decode cc pc = .ok (.invokevirtual index, 3)) (kk : ∀ (r : Int32) (u : gS), post r u → G l R kc ks cc nL own D (t1 ++ t2) Γ (wf u ++ wr) (pc + 3) lv (.int r :: st)) : G l R kc ks cc nL own D (t1 ++ t2) Γ (wf σ ++ wr) pc lv st0 := by
  intro p e s m args below meth c Q A H locs ls X hP hD hS hl
  have hK := X.2.2.2.2.2.2.1
  have hA := X.2.2.2.2.2.2.2.1
  have hFc : ∀ q : Nat, va_A (wf σ) H.size q → A q := by
    intro q h
    rcases h with ⟨k, e, h⟩ | h
    · exact (D_l hD).2 k (q, e) h
    · exact hA q (Nat.le_trans hS.1 h)
  refine va_calli (va_runV (As := As) (rest := st) ⟨X.1, X.2.1, X.2.2.1, X.2.2.2.1, X.2.2.2.2.1⟩ (hC H.size) (cwV n X.2.2.2.2.1 hV rfl hcell hslot hdesc hR) ⟨fun a U g mk q => by obtain ⟨q0, q1, qP, qK, qD⟩ := q; exact ⟨q0, q1, qP, va_K.moved (u := U) (U := U.calling g mk a) (Vm.Alike.refl U.vm) qK, qD⟩, va_recv (K_l hK) (P_l hP) hc he, fun U hU hW => ⟨rfl, by rw [hU], by rw [hU]; exact P_l hP, va_K.moved hW.alike (K_l hK), (D_l hD).weaken (fun _ _ _ _ => trivial)⟩⟩ rfl hn hl.1 hst (lv_room hcat) hd ⟨hk, hs⟩) hS (fun q _ h => hFc q h) hFc (fun r u t H1 locs1 ht hvm hw hB hz1 hk1 hS1 => ?_)
  obtain ⟨hP1, hK1, hD1⟩ := hB
  rw [ht] at hP1
  obtain ⟨hP2, hD2⟩ := w_joinL hP hD hk1 hFc hP1 hD1
  exact kk r u hw p e s m args below meth c Q A H1 locs1 ls X hP2 hD2 hS1 hl
theorem g_callR {post : Int32 → gS → Prop} {a n index ci N q0 : Nat} {As st0 : List Value} {Cn : String} {T : u_T} {fs : List Value} {wr : va_W} (hC : Con l D t2 wf y bc Lc ty rm (.ref a :: As) σ post) (hV : GoodIn lw_all (wsV own index Cn y (ws_ y bc Lc (some ty)))) (hcell : rm.cells = 0) (hslot : rm.slots = 0) (hdesc : y.cls = Cn ∧ y.cls ≠ "java/lang/invoke/MethodHandle" ∧ y.cls ≠ "java/lang/invoke/VarHandle" ∧ (parseMethodDescriptor y.desc).map (fun d => d.parameters.length) = some n) (hR : rm.frames + 1 ≤ R.frames ∧ 8 + (Lc + 11) + rm.locals ≤ R.locals) (hc : vwCl[ci]? = some (Cn, T, N)) (he : (wf σ)[q0]? = some (a, .inr (ci, fs))) (hn : As.length = n) (hst : st0 = As.reverse ++ .ref a :: st) (hcat : (st.map fun v => v.category).sum ≤ 8) (hk : kc ≤ R.cells) (hs : ks ≤ R.slots) (hd : decode cc pc = .ok (.invokevirtual index, 3)) (kk : ∀ (r : Int32) (u : gS), post r u → G l R kc ks cc nL own D (t1 ++ t2) Γ (wr ++ wf u) (pc + 3) lv (.int r :: st)) : G l R kc ks cc nL own D (t1 ++ t2) Γ (wr ++ wf σ) pc lv st0 := by
  intro p e s m args below meth c Q A H locs ls X hP hD hS hl
  have hK := X.2.2.2.2.2.2.1
  have hA := X.2.2.2.2.2.2.2.1
  have hFc : ∀ q : Nat, va_A (wf σ) H.size q → A q := by
    intro q h
    rcases h with ⟨k, e, h⟩ | h
    · exact (D_r hD).2 k (q, e) h
    · exact hA q (Nat.le_trans hS.1 h)
  refine va_calli (va_runV (As := As) (rest := st) ⟨X.1, X.2.1, X.2.2.1, X.2.2.2.1, X.2.2.2.2.1⟩ (hC H.size) (cwV n X.2.2.2.2.1 hV rfl hcell hslot hdesc hR) ⟨fun a U g mk q => by obtain ⟨q0, q1, qP, qK, qD⟩ := q; exact ⟨q0, q1, qP, va_K.moved (u := U) (U := U.calling g mk a) (Vm.Alike.refl U.vm) qK, qD⟩, va_recv (K_r hK) (P_r hP) hc he, fun U hU hW => ⟨rfl, by rw [hU], by rw [hU]; exact P_r hP, va_K.moved hW.alike (K_r hK), (D_r hD).weaken (fun _ _ _ _ => trivial)⟩⟩ rfl hn hl.1 hst (lv_room hcat) hd ⟨hk, hs⟩) hS (fun q _ h => hFc q h) hFc (fun r u t H1 locs1 ht hvm hw hB hz1 hk1 hS1 => ?_)
  obtain ⟨hP1, hK1, hD1⟩ := hB
  rw [ht] at hP1
  obtain ⟨hP2, hD2⟩ := w_joinR hP hD hk1 hFc hP1 hD1
  exact kk r u hw p e s m args below meth c Q A H1 locs1 ls X hP2 hD2 hS1 hl
theorem g_lret (hd : decode code pc = .ok (.ireturn, 1)) : G l room_1 600000 7290000 code nL own D tys (gL b L xs) ws pc lv [.int 1] := by
  intro p e s m args below meth c Q A H locs ls X hP hD hS hl
  obtain ⟨hx, hb, hml, hown, hts, hlk, hK, hA, rfl, hr, hX, hbl, rfl, rfl⟩ := X
  exact va_forget (fun q hq => hS.2.2 q hq) (lw_ret hx hb hr hlk hd)
end GLAW
section GLAWC
variable {l : Launch} {kc ks : Nat} {cc : ByteArray} {nL : Nat} {D : va_G} {Γ : gC} {pc : Nat} {lv : List (Option Value)} {st : List Value} {ad0 ad1 : Nat → Nat} {kd0 kd1 : Nat → ClassId} {σ τ : gS}
theorem kL_13 {d' : Nat} {x1 x2 x3 : Int32} {post : Int32 → gS → Prop} (hd : decode cc pc = .ok (.invokevirtual 13, 3)) (hC : Con l D (ty0 kd0) (w0 ad0 kd0) yX0_add cX0_add 5 .int (rmL d') [.ref (ad0 0), .int x1, .int x2, .int x3] σ post) (hdd : d' ≤ 3) (hcat : (st.map fun v => v.category).sum ≤ 8) (hk : kc ≤ 600000) (hs : ks ≤ 7290000) (kk : ∀ (r : Int32) (u : gS), post r u → G l room_1 kc ks cc nL R_law D (ty0 kd0 ++ ty1 kd1) Γ (w0 ad0 kd0 u ++ w1 ad1 kd1 τ) (pc + 3) lv (.int r :: st)) : G l room_1 kc ks cc nL R_law D (ty0 kd0 ++ ty1 kd1) Γ (w0 ad0 kd0 σ ++ w1 ad1 kd1 τ) pc lv (.int x3 :: .int x2 :: .int x1 :: .ref (ad0 0) :: st) := g_callL (n := 3) (ci := 0) (q0 := 0) hC (lw_V q62 q63 q64 q22 q65) rfl rfl (by decide +kernel) ⟨by show d' + 1 ≤ 6; omega, by show 8 + (5 + 11) + 32 * d' ≤ 206; omega⟩ rfl rfl rfl rfl hcat hk hs hd kk
theorem kL_18 {d' : Nat} {x1 : Int32} {post : Int32 → gS → Prop} (hd : decode cc pc = .ok (.invokevirtual 18, 3)) (hC : Con l D (ty0 kd0) (w0 ad0 kd0) yX0_drop cX0_drop 3 .int (rmL d') [.ref (ad0 0), .int x1] σ post) (hdd : d' ≤ 3) (hcat : (st.map fun v => v.category).sum ≤ 8) (hk : kc ≤ 600000) (hs : ks ≤ 7290000) (kk : ∀ (r : Int32) (u : gS), post r u → G l room_1 kc ks cc nL R_law D (ty0 kd0 ++ ty1 kd1) Γ (w0 ad0 kd0 u ++ w1 ad1 kd1 τ) (pc + 3) lv (.int r :: st)) : G l room_1 kc ks cc nL R_law D (ty0 kd0 ++ ty1 kd1) Γ (w0 ad0 kd0 σ ++ w1 ad1 kd1 τ) pc lv (.int x1 :: .ref (ad0 0) :: st) := g_callL (n := 1) (ci := 0) (q0 := 0) hC (lw_V q70 q71 q72 q22 q73) rfl rfl (by decide +kernel) ⟨by show d' + 1 ≤ 6; omega, by show 8 + (3 + 11) + 32 * d' ≤ 206; omega⟩ rfl rfl rfl rfl hcat hk hs hd kk
theorem kL_23 {d' : Nat} {x1 x2 x3 : Int32} {post : Int32 → gS → Prop} (hd : decode cc pc = .ok (.invokevirtual 23, 3)) (hC : Con l D (ty0 kd0) (w0 ad0 kd0) yX0_covers cX0_covers 4 .boolean (rmL d') [.ref (ad0 0), .int x1, .int x2, .int x3] σ post) (hdd : d' ≤ 3) (hcat : (st.map fun v => v.category).sum ≤ 8) (hk : kc ≤ 600000) (hs : ks ≤ 7290000) (kk : ∀ (r : Int32) (u : gS), post r u → G l room_1 kc ks cc nL R_law D (ty0 kd0 ++ ty1 kd1) Γ (w0 ad0 kd0 u ++ w1 ad1 kd1 τ) (pc + 3) lv (.int r :: st)) : G l room_1 kc ks cc nL R_law D (ty0 kd0 ++ ty1 kd1) Γ (w0 ad0 kd0 σ ++ w1 ad1 kd1 τ) pc lv (.int x3 :: .int x2 :: .int x1 :: .ref (ad0 0) :: st) := g_callL (n := 3) (ci := 0) (q0 := 0) hC (lw_V q74 q75 q76 q22 q77) rfl rfl (by decide +kernel) ⟨by show d' + 1 ≤ 6; omega, by show 8 + (4 + 11) + 32 * d' ≤ 206; omega⟩ rfl rfl rfl rfl hcat hk hs hd kk
theorem kL_28 {d' : Nat} {x1 x2 x3 : Int32} {post : Int32 → gS → Prop} (hd : decode cc pc = .ok (.invokevirtual 28, 3)) (hC : Con l D (ty0 kd0) (w0 ad0 kd0) yX0_area cX0_area 6 .int (rmL d') [.ref (ad0 0), .int x1, .int x2, .int x3] σ post) (hdd : d' ≤ 3) (hcat : (st.map fun v => v.category).sum ≤ 8) (hk : kc ≤ 600000) (hs : ks ≤ 7290000) (kk : ∀ (r : Int32) (u : gS), post r u → G l room_1 kc ks cc nL R_law D (ty0 kd0 ++ ty1 kd1) Γ (w0 ad0 kd0 u ++ w1 ad1 kd1 τ) (pc + 3) lv (.int r :: st)) : G l room_1 kc ks cc nL R_law D (ty0 kd0 ++ ty1 kd1) Γ (w0 ad0 kd0 σ ++ w1 ad1 kd1 τ) pc lv (.int x3 :: .int x2 :: .int x1 :: .ref (ad0 0) :: st) := g_callL (n := 3) (ci := 0) (q0 := 0) hC (lw_V q86 q87 q88 q22 q89) rfl rfl (by decide +kernel) ⟨by show d' + 1 ≤ 6; omega, by show 8 + (6 + 11) + 32 * d' ≤ 206; omega⟩ rfl rfl rfl rfl hcat hk hs hd kk
theorem kL_32 {d' : Nat} {x1 x2 x3 : Int32} {post : Int32 → gS → Prop} (hd : decode cc pc = .ok (.invokevirtual 32, 3)) (hC : Con l D (ty0 kd0) (w0 ad0 kd0) yX0_outline cX0_outline 7 .int (rmL d') [.ref (ad0 0), .int x1, .int x2, .int x3] σ post) (hdd : d' ≤ 3) (hcat : (st.map fun v => v.category).sum ≤ 8) (hk : kc ≤ 600000) (hs : ks ≤ 7290000) (kk : ∀ (r : Int32) (u : gS), post r u → G l room_1 kc ks cc nL R_law D (ty0 kd0 ++ ty1 kd1) Γ (w0 ad0 kd0 u ++ w1 ad1 kd1 τ) (pc + 3) lv (.int r :: st)) : G l room_1 kc ks cc nL R_law D (ty0 kd0 ++ ty1 kd1) Γ (w0 ad0 kd0 σ ++ w1 ad1 kd1 τ) pc lv (.int x3 :: .int x2 :: .int x1 :: .ref (ad0 0) :: st) := g_callL (n := 3) (ci := 0) (q0 := 0) hC (lw_V q107 q108 q109 q22 q110) rfl rfl (by decide +kernel) ⟨by show d' + 1 ≤ 6; omega, by show 8 + (7 + 11) + 32 * d' ≤ 206; omega⟩ rfl rfl rfl rfl hcat hk hs hd kk
theorem kL_36 {d' : Nat} {x1 x2 x3 : Int32} {post : Int32 → gS → Prop} (hd : decode cc pc = .ok (.invokevirtual 36, 3)) (hC : Con l D (ty0 kd0) (w0 ad0 kd0) yX0_corners cX0_corners 11 .int (rmL d') [.ref (ad0 0), .int x1, .int x2, .int x3] σ post) (hdd : d' ≤ 3) (hcat : (st.map fun v => v.category).sum ≤ 8) (hk : kc ≤ 600000) (hs : ks ≤ 7290000) (kk : ∀ (r : Int32) (u : gS), post r u → G l room_1 kc ks cc nL R_law D (ty0 kd0 ++ ty1 kd1) Γ (w0 ad0 kd0 u ++ w1 ad1 kd1 τ) (pc + 3) lv (.int r :: st)) : G l room_1 kc ks cc nL R_law D (ty0 kd0 ++ ty1 kd1) Γ (w0 ad0 kd0 σ ++ w1 ad1 kd1 τ) pc lv (.int x3 :: .int x2 :: .int x1 :: .ref (ad0 0) :: st) := g_callL (n := 3) (ci := 0) (q0 := 0) hC (lw_V q111 q112 q113 q22 q114) rfl rfl (by decide +kernel) ⟨by show d' + 1 ≤ 6; omega, by show 8 + (11 + 11) + 32 * d' ≤ 206; omega⟩ rfl rfl rfl rfl hcat hk hs hd kk
theorem kL_40 {d' : Nat} {x1 x2 : Int32} {post : Int32 → gS → Prop} (hd : decode cc pc = .ok (.invokevirtual 40, 3)) (hC : Con l D (ty0 kd0) (w0 ad0 kd0) yX0_thin cX0_thin 4 .int (rmL d') [.ref (ad0 0), .int x1, .int x2] σ post) (hdd : d' ≤ 3) (hcat : (st.map fun v => v.category).sum ≤ 8) (hk : kc ≤ 600000) (hs : ks ≤ 7290000) (kk : ∀ (r : Int32) (u : gS), post r u → G l room_1 kc ks cc nL R_law D (ty0 kd0 ++ ty1 kd1) Γ (w0 ad0 kd0 u ++ w1 ad1 kd1 τ) (pc + 3) lv (.int r :: st)) : G l room_1 kc ks cc nL R_law D (ty0 kd0 ++ ty1 kd1) Γ (w0 ad0 kd0 σ ++ w1 ad1 kd1 τ) pc lv (.int x2 :: .int x1 :: .ref (ad0 0) :: st) := g_callL (n := 2) (ci := 0) (q0 := 0) hC (lw_V q115 q116 q117 q22 q118) rfl rfl (by decide +kernel) ⟨by show d' + 1 ≤ 6; omega, by show 8 + (4 + 11) + 32 * d' ≤ 206; omega⟩ rfl rfl rfl rfl hcat hk hs hd kk
theorem kL_45 {d' : Nat} {x1 x2 : Int32} {post : Int32 → gS → Prop} (hd : decode cc pc = .ok (.invokevirtual 45, 3)) (hC : Con l D (ty0 kd0) (w0 ad0 kd0) yX0_gaps cX0_gaps 4 .int (rmL d') [.ref (ad0 0), .int x1, .int x2] σ post) (hdd : d' ≤ 3) (hcat : (st.map fun v => v.category).sum ≤ 8) (hk : kc ≤ 600000) (hs : ks ≤ 7290000) (kk : ∀ (r : Int32) (u : gS), post r u → G l room_1 kc ks cc nL R_law D (ty0 kd0 ++ ty1 kd1) Γ (w0 ad0 kd0 u ++ w1 ad1 kd1 τ) (pc + 3) lv (.int r :: st)) : G l room_1 kc ks cc nL R_law D (ty0 kd0 ++ ty1 kd1) Γ (w0 ad0 kd0 σ ++ w1 ad1 kd1 τ) pc lv (.int x2 :: .int x1 :: .ref (ad0 0) :: st) := g_callL (n := 2) (ci := 0) (q0 := 0) hC (lw_V q135 q136 q137 q22 q138) rfl rfl (by decide +kernel) ⟨by show d' + 1 ≤ 6; omega, by show 8 + (4 + 11) + 32 * d' ≤ 206; omega⟩ rfl rfl rfl rfl hcat hk hs hd kk
theorem kL_49 {d' : Nat} {x1 x2 : Int32} {post : Int32 → gS → Prop} (hd : decode cc pc = .ok (.invokevirtual 49, 3)) (hC : Con l D (ty0 kd0) (w0 ad0 kd0) yX0_enclosure cX0_enclosure 4 .int (rmL d') [.ref (ad0 0), .int x1, .int x2] σ post) (hdd : d' ≤ 3) (hcat : (st.map fun v => v.category).sum ≤ 8) (hk : kc ≤ 600000) (hs : ks ≤ 7290000) (kk : ∀ (r : Int32) (u : gS), post r u → G l room_1 kc ks cc nL R_law D (ty0 kd0 ++ ty1 kd1) Γ (w0 ad0 kd0 u ++ w1 ad1 kd1 τ) (pc + 3) lv (.int r :: st)) : G l room_1 kc ks cc nL R_law D (ty0 kd0 ++ ty1 kd1) Γ (w0 ad0 kd0 σ ++ w1 ad1 kd1 τ) pc lv (.int x2 :: .int x1 :: .ref (ad0 0) :: st) := g_callL (n := 2) (ci := 0) (q0 := 0) hC (lw_V q140 q141 q142 q22 q143) rfl rfl (by decide +kernel) ⟨by show d' + 1 ≤ 6; omega, by show 8 + (4 + 11) + 32 * d' ≤ 206; omega⟩ rfl rfl rfl rfl hcat hk hs hd kk
theorem kL_17 {d' : Nat} {x1 x2 x3 : Int32} {post : Int32 → gS → Prop} (hd : decode cc pc = .ok (.invokevirtual 17, 3)) (hC : Con l D (ty1 kd1) (w1 ad1 kd1) yX1_add cX1_add 5 .int (rmL d') [.ref (ad1 0), .int x1, .int x2, .int x3] τ post) (hdd : d' ≤ 3) (hcat : (st.map fun v => v.category).sum ≤ 8) (hk : kc ≤ 600000) (hs : ks ≤ 7290000) (kk : ∀ (r : Int32) (u : gS), post r u → G l room_1 kc ks cc nL R_law D (ty0 kd0 ++ ty1 kd1) Γ (w0 ad0 kd0 σ ++ w1 ad1 kd1 u) (pc + 3) lv (.int r :: st)) : G l room_1 kc ks cc nL R_law D (ty0 kd0 ++ ty1 kd1) Γ (w0 ad0 kd0 σ ++ w1 ad1 kd1 τ) pc lv (.int x3 :: .int x2 :: .int x1 :: .ref (ad1 0) :: st) := g_callR (n := 3) (ci := 1) (q0 := 0) hC (lw_V q178 q179 q180 q23 q181) rfl rfl (by decide +kernel) ⟨by show d' + 1 ≤ 6; omega, by show 8 + (5 + 11) + 32 * d' ≤ 206; omega⟩ rfl rfl rfl rfl hcat hk hs hd kk
theorem kL_22 {d' : Nat} {x1 : Int32} {post : Int32 → gS → Prop} (hd : decode cc pc = .ok (.invokevirtual 22, 3)) (hC : Con l D (ty1 kd1) (w1 ad1 kd1) yX1_drop cX1_drop 3 .int (rmL d') [.ref (ad1 0), .int x1] τ post) (hdd : d' ≤ 3) (hcat : (st.map fun v => v.category).sum ≤ 8) (hk : kc ≤ 600000) (hs : ks ≤ 7290000) (kk : ∀ (r : Int32) (u : gS), post r u → G l room_1 kc ks cc nL R_law D (ty0 kd0 ++ ty1 kd1) Γ (w0 ad0 kd0 σ ++ w1 ad1 kd1 u) (pc + 3) lv (.int r :: st)) : G l room_1 kc ks cc nL R_law D (ty0 kd0 ++ ty1 kd1) Γ (w0 ad0 kd0 σ ++ w1 ad1 kd1 τ) pc lv (.int x1 :: .ref (ad1 0) :: st) := g_callR (n := 1) (ci := 1) (q0 := 0) hC (lw_V q186 q187 q188 q23 q189) rfl rfl (by decide +kernel) ⟨by show d' + 1 ≤ 6; omega, by show 8 + (3 + 11) + 32 * d' ≤ 206; omega⟩ rfl rfl rfl rfl hcat hk hs hd kk
theorem kL_27 {d' : Nat} {x1 x2 x3 : Int32} {post : Int32 → gS → Prop} (hd : decode cc pc = .ok (.invokevirtual 27, 3)) (hC : Con l D (ty1 kd1) (w1 ad1 kd1) yX1_covers cX1_covers 4 .boolean (rmL d') [.ref (ad1 0), .int x1, .int x2, .int x3] τ post) (hdd : d' ≤ 3) (hcat : (st.map fun v => v.category).sum ≤ 8) (hk : kc ≤ 600000) (hs : ks ≤ 7290000) (kk : ∀ (r : Int32) (u : gS), post r u → G l room_1 kc ks cc nL R_law D (ty0 kd0 ++ ty1 kd1) Γ (w0 ad0 kd0 σ ++ w1 ad1 kd1 u) (pc + 3) lv (.int r :: st)) : G l room_1 kc ks cc nL R_law D (ty0 kd0 ++ ty1 kd1) Γ (w0 ad0 kd0 σ ++ w1 ad1 kd1 τ) pc lv (.int x3 :: .int x2 :: .int x1 :: .ref (ad1 0) :: st) := g_callR (n := 3) (ci := 1) (q0 := 0) hC (lw_V q190 q191 q192 q23 q193) rfl rfl (by decide +kernel) ⟨by show d' + 1 ≤ 6; omega, by show 8 + (4 + 11) + 32 * d' ≤ 206; omega⟩ rfl rfl rfl rfl hcat hk hs hd kk
theorem kL_31 {d' : Nat} {x1 x2 x3 : Int32} {post : Int32 → gS → Prop} (hd : decode cc pc = .ok (.invokevirtual 31, 3)) (hC : Con l D (ty1 kd1) (w1 ad1 kd1) yX1_area cX1_area 6 .int (rmL d') [.ref (ad1 0), .int x1, .int x2, .int x3] τ post) (hdd : d' ≤ 3) (hcat : (st.map fun v => v.category).sum ≤ 8) (hk : kc ≤ 600000) (hs : ks ≤ 7290000) (kk : ∀ (r : Int32) (u : gS), post r u → G l room_1 kc ks cc nL R_law D (ty0 kd0 ++ ty1 kd1) Γ (w0 ad0 kd0 σ ++ w1 ad1 kd1 u) (pc + 3) lv (.int r :: st)) : G l room_1 kc ks cc nL R_law D (ty0 kd0 ++ ty1 kd1) Γ (w0 ad0 kd0 σ ++ w1 ad1 kd1 τ) pc lv (.int x3 :: .int x2 :: .int x1 :: .ref (ad1 0) :: st) := g_callR (n := 3) (ci := 1) (q0 := 0) hC (lw_V q198 q199 q200 q23 q201) rfl rfl (by decide +kernel) ⟨by show d' + 1 ≤ 6; omega, by show 8 + (6 + 11) + 32 * d' ≤ 206; omega⟩ rfl rfl rfl rfl hcat hk hs hd kk
theorem kL_35 {d' : Nat} {x1 x2 x3 : Int32} {post : Int32 → gS → Prop} (hd : decode cc pc = .ok (.invokevirtual 35, 3)) (hC : Con l D (ty1 kd1) (w1 ad1 kd1) yX1_outline cX1_outline 7 .int (rmL d') [.ref (ad1 0), .int x1, .int x2, .int x3] τ post) (hdd : d' ≤ 3) (hcat : (st.map fun v => v.category).sum ≤ 8) (hk : kc ≤ 600000) (hs : ks ≤ 7290000) (kk : ∀ (r : Int32) (u : gS), post r u → G l room_1 kc ks cc nL R_law D (ty0 kd0 ++ ty1 kd1) Γ (w0 ad0 kd0 σ ++ w1 ad1 kd1 u) (pc + 3) lv (.int r :: st)) : G l room_1 kc ks cc nL R_law D (ty0 kd0 ++ ty1 kd1) Γ (w0 ad0 kd0 σ ++ w1 ad1 kd1 τ) pc lv (.int x3 :: .int x2 :: .int x1 :: .ref (ad1 0) :: st) := g_callR (n := 3) (ci := 1) (q0 := 0) hC (lw_V q206 q207 q208 q23 q209) rfl rfl (by decide +kernel) ⟨by show d' + 1 ≤ 6; omega, by show 8 + (7 + 11) + 32 * d' ≤ 206; omega⟩ rfl rfl rfl rfl hcat hk hs hd kk
theorem kL_39 {d' : Nat} {x1 x2 x3 : Int32} {post : Int32 → gS → Prop} (hd : decode cc pc = .ok (.invokevirtual 39, 3)) (hC : Con l D (ty1 kd1) (w1 ad1 kd1) yX1_corners cX1_corners 11 .int (rmL d') [.ref (ad1 0), .int x1, .int x2, .int x3] τ post) (hdd : d' ≤ 3) (hcat : (st.map fun v => v.category).sum ≤ 8) (hk : kc ≤ 600000) (hs : ks ≤ 7290000) (kk : ∀ (r : Int32) (u : gS), post r u → G l room_1 kc ks cc nL R_law D (ty0 kd0 ++ ty1 kd1) Γ (w0 ad0 kd0 σ ++ w1 ad1 kd1 u) (pc + 3) lv (.int r :: st)) : G l room_1 kc ks cc nL R_law D (ty0 kd0 ++ ty1 kd1) Γ (w0 ad0 kd0 σ ++ w1 ad1 kd1 τ) pc lv (.int x3 :: .int x2 :: .int x1 :: .ref (ad1 0) :: st) := g_callR (n := 3) (ci := 1) (q0 := 0) hC (lw_V q214 q215 q216 q23 q217) rfl rfl (by decide +kernel) ⟨by show d' + 1 ≤ 6; omega, by show 8 + (11 + 11) + 32 * d' ≤ 206; omega⟩ rfl rfl rfl rfl hcat hk hs hd kk
theorem kL_44 {d' : Nat} {x1 x2 : Int32} {post : Int32 → gS → Prop} (hd : decode cc pc = .ok (.invokevirtual 44, 3)) (hC : Con l D (ty1 kd1) (w1 ad1 kd1) yX1_thin cX1_thin 8 .int (rmL d') [.ref (ad1 0), .int x1, .int x2] τ post) (hdd : d' ≤ 3) (hcat : (st.map fun v => v.category).sum ≤ 8) (hk : kc ≤ 600000) (hs : ks ≤ 7290000) (kk : ∀ (r : Int32) (u : gS), post r u → G l room_1 kc ks cc nL R_law D (ty0 kd0 ++ ty1 kd1) Γ (w0 ad0 kd0 σ ++ w1 ad1 kd1 u) (pc + 3) lv (.int r :: st)) : G l room_1 kc ks cc nL R_law D (ty0 kd0 ++ ty1 kd1) Γ (w0 ad0 kd0 σ ++ w1 ad1 kd1 τ) pc lv (.int x2 :: .int x1 :: .ref (ad1 0) :: st) := g_callR (n := 2) (ci := 1) (q0 := 0) hC (lw_V q218 q219 q220 q23 q221) rfl rfl (by decide +kernel) ⟨by show d' + 1 ≤ 6; omega, by show 8 + (8 + 11) + 32 * d' ≤ 206; omega⟩ rfl rfl rfl rfl hcat hk hs hd kk
theorem kL_48 {d' : Nat} {x1 x2 : Int32} {post : Int32 → gS → Prop} (hd : decode cc pc = .ok (.invokevirtual 48, 3)) (hC : Con l D (ty1 kd1) (w1 ad1 kd1) yX1_gaps cX1_gaps 6 .int (rmL d') [.ref (ad1 0), .int x1, .int x2] τ post) (hdd : d' ≤ 3) (hcat : (st.map fun v => v.category).sum ≤ 8) (hk : kc ≤ 600000) (hs : ks ≤ 7290000) (kk : ∀ (r : Int32) (u : gS), post r u → G l room_1 kc ks cc nL R_law D (ty0 kd0 ++ ty1 kd1) Γ (w0 ad0 kd0 σ ++ w1 ad1 kd1 u) (pc + 3) lv (.int r :: st)) : G l room_1 kc ks cc nL R_law D (ty0 kd0 ++ ty1 kd1) Γ (w0 ad0 kd0 σ ++ w1 ad1 kd1 τ) pc lv (.int x2 :: .int x1 :: .ref (ad1 0) :: st) := g_callR (n := 2) (ci := 1) (q0 := 0) hC (lw_V q226 q227 q228 q23 q229) rfl rfl (by decide +kernel) ⟨by show d' + 1 ≤ 6; omega, by show 8 + (6 + 11) + 32 * d' ≤ 206; omega⟩ rfl rfl rfl rfl hcat hk hs hd kk
theorem kL_52 {d' : Nat} {x1 x2 : Int32} {post : Int32 → gS → Prop} (hd : decode cc pc = .ok (.invokevirtual 52, 3)) (hC : Con l D (ty1 kd1) (w1 ad1 kd1) yX1_enclosure cX1_enclosure 4 .int (rmL d') [.ref (ad1 0), .int x1, .int x2] τ post) (hdd : d' ≤ 3) (hcat : (st.map fun v => v.category).sum ≤ 8) (hk : kc ≤ 600000) (hs : ks ≤ 7290000) (kk : ∀ (r : Int32) (u : gS), post r u → G l room_1 kc ks cc nL R_law D (ty0 kd0 ++ ty1 kd1) Γ (w0 ad0 kd0 σ ++ w1 ad1 kd1 u) (pc + 3) lv (.int r :: st)) : G l room_1 kc ks cc nL R_law D (ty0 kd0 ++ ty1 kd1) Γ (w0 ad0 kd0 σ ++ w1 ad1 kd1 τ) pc lv (.int x2 :: .int x1 :: .ref (ad1 0) :: st) := g_callR (n := 2) (ci := 1) (q0 := 0) hC (lw_V q234 q235 q236 q23 q237) rfl rfl (by decide +kernel) ⟨by show d' + 1 ≤ 6; omega, by show 8 + (4 + 11) + 32 * d' ≤ 206; omega⟩ rfl rfl rfl rfl hcat hk hs hd kk
end GLAWC
end
section
set_option maxRecDepth 100000
/-! THE LAW -/
theorem l_cmp {a i : Nat} (ha : a < 2 ^ 30) (hi : i < 2 ^ 30) : nI a - nI 4 < nI i ↔ a < i + 4 := by
  rw [Int32.lt_iff_toInt_lt, nI_toInt (by omega), pk_sub_toInt ha (by omega)]
  omega
theorem R0_0 : R0 (fun _ => 0) (fun _ _ => 0) s0 := ⟨fun l hl => ⟨Nat.zero_le _, fun k hk => absurd hk (Nat.not_lt_zero k)⟩, fun l hl => ⟨rfl, fun k hk => absurd hk (Nat.not_lt_zero k)⟩⟩
theorem R1_0 : R1 (fun _ => 0) (fun _ _ => 0) s0 := ⟨fun l hl => ⟨Nat.zero_le _, fun k hk => absurd hk (Nat.not_lt_zero k)⟩, fun l hl => ⟨rfl, fun k hk => absurd hk (Nat.not_lt_zero k)⟩⟩
section LAW
variable {l : Launch} {D : va_G} {b L : Nat} {xs : Nat → Int32}
/-- the law's loop: both objects hold one picture -/
theorem law_loop (hL : L ≤ 256) (ad0 ad1 : Nat → Nat) (kd0 kd1 : Nat → ClassId) : ∀ (d i : Nat), L + 4 - i < d → i ≤ L + 4 → ∀ (c : Nat → Nat) (q : Nat → Nat → Nat) (σ τ : gS), R0 c q σ → R1 c q τ → G l room_1 600000 7290000 cL_law 4 R_law D (ty0 kd0 ++ ty1 kd1) (gL b L xs) (w0 ad0 kd0 σ ++ w1 ad1 kd1 τ) 18 [some (.ref b), some (.ref (ad0 0)), some (.ref (ad1 0)), some (.int (nI i))] [] := by
  have hL31 : L < 2 ^ 31 := by omega
  intro d
  induction d with
  | zero => intro i z; omega
  | succ d ih =>
    intro i hd hi c q σ τ h0 h1
    refine g_il3 dL_law_18 ?_
    refine g_al0 dL_law_19 ?_
    refine g_slen dL_law_20 ?_
    refine g_iconst (v := nI 4) dL_law_21 rfl ?_
    refine g_isub dL_law_22 ?_
    refine g_icmp_gt (tgt := 427) dL_law_23 (by decide) (fun c23 => ?_) (fun c23 => ?_)
    · refine g_iconst (v := nI 1) dL_law_427 rfl ?_
      exact g_lret dL_law_428
    · have c23 := mt (l_cmp (a := L) (i := i) (by omega) (by omega)).mpr c23
      have fin : ∀ (c : Nat → Nat) (q : Nat → Nat → Nat) (σ τ : gS), R0 c q σ → R1 c q τ → G l room_1 600000 7290000 cL_law 4 R_law D (ty0 kd0 ++ ty1 kd1) (gL b L xs) (w0 ad0 kd0 σ ++ w1 ad1 kd1 τ) 421 [some (.ref b), some (.ref (ad0 0)), some (.ref (ad1 0)), some (.int (nI i))] [] := by
        intro c q σ τ h0 h1
        refine g_ic3 dL_law_421 (nI_add i 4) ?_
        refine g_goto (tgt := 18) dL_law_424 (by decide) ?_
        exact ih (i + 4) (by omega) (by omega) c q σ τ h0 h1
      obtain ⟨j, hj, ej⟩ := pk_andE (xs i) (m := nI 15) 4 rfl
      refine g_al0 dL_law_26 ?_
      refine g_il3 dL_law_27 ?_
      refine g_sld dL_law_28 (by omega) hL31 ?_
      refine g_bipush (v := nI 15) dL_law_29 rfl ?_
      refine g_iand dL_law_31 ?_
      refine g_top (ej) ?_
      have hj : j = 0 ∨ j = 1 ∨ j = 2 ∨ j = 3 ∨ j = 4 ∨ j = 5 ∨ j = 6 ∨ j = 7 ∨ j = 8 ∨ 9 ≤ j := by omega
      clear ej
      rcases hj with rfl | rfl | rfl | rfl | rfl | rfl | rfl | rfl | rfl | hj9
      · refine g_tabIn (off := 52) (tgt := 84) dL_law_32 (by decide) (by decide) (by decide) (by decide) ?_
        refine g_al1 dL_law_84 ?_
        refine g_al0 dL_law_85 ?_
        refine g_il3 dL_law_86 ?_
        refine g_iconst (v := nI 1) dL_law_87 rfl ?_
        refine g_iadd_n dL_law_88 ?_
        refine g_sld dL_law_89 (by omega) hL31 ?_
        refine g_al0 dL_law_90 ?_
        refine g_il3 dL_law_91 ?_
        refine g_iconst (v := nI 2) dL_law_92 rfl ?_
        refine g_iadd_n dL_law_93 ?_
        refine g_sld dL_law_94 (by omega) hL31 ?_
        refine g_al0 dL_law_95 ?_
        refine g_il3 dL_law_96 ?_
        refine g_iconst (v := nI 3) dL_law_97 rfl ?_
        refine g_iadd_n dL_law_98 ?_
        refine g_sld dL_law_99 (by omega) hL31 ?_
        refine kL_13 dL_law_100 (m0_add h0 _ _ _) (by decide) (Nat.le_of_ble_eq_true rfl) (Nat.le_refl _) (Nat.le_refl _) ?_
        rintro r1 u1 ⟨e1, h0'⟩
        refine g_al2 dL_law_103 ?_
        refine g_al0 dL_law_104 ?_
        refine g_il3 dL_law_105 ?_
        refine g_iconst (v := nI 1) dL_law_106 rfl ?_
        refine g_iadd_n dL_law_107 ?_
        refine g_sld dL_law_108 (by omega) hL31 ?_
        refine g_al0 dL_law_109 ?_
        refine g_il3 dL_law_110 ?_
        refine g_iconst (v := nI 2) dL_law_111 rfl ?_
        refine g_iadd_n dL_law_112 ?_
        refine g_sld dL_law_113 (by omega) hL31 ?_
        refine g_al0 dL_law_114 ?_
        refine g_il3 dL_law_115 ?_
        refine g_iconst (v := nI 3) dL_law_116 rfl ?_
        refine g_iadd_n dL_law_117 ?_
        refine g_sld dL_law_118 (by omega) hL31 ?_
        refine kL_17 dL_law_119 (m1_add h1 _ _ _) (by decide) (Nat.le_of_ble_eq_true rfl) (Nat.le_refl _) (Nat.le_refl _) ?_
        rintro r2 u2 ⟨e2, h1'⟩
        refine g_icmp_eq (tgt := 421) dL_law_122 (by decide) (fun c122 => ?_) (fun c122 => ?_)
        · exact fin _ _ _ _ h0' h1'
        · exact absurd (e1.trans e2.symm) c122
      · refine g_tabIn (off := 95) (tgt := 127) dL_law_32 (by decide) (by decide) (by decide) (by decide) ?_
        refine g_al1 dL_law_127 ?_
        refine g_al0 dL_law_128 ?_
        refine g_il3 dL_law_129 ?_
        refine g_iconst (v := nI 1) dL_law_130 rfl ?_
        refine g_iadd_n dL_law_131 ?_
        refine g_sld dL_law_132 (by omega) hL31 ?_
        refine kL_18 dL_law_133 (m0_drop h0 _) (by decide) (Nat.le_of_ble_eq_true rfl) (Nat.le_refl _) (Nat.le_refl _) ?_
        rintro r1 u1 ⟨e1, h0'⟩
        refine g_al2 dL_law_136 ?_
        refine g_al0 dL_law_137 ?_
        refine g_il3 dL_law_138 ?_
        refine g_iconst (v := nI 1) dL_law_139 rfl ?_
        refine g_iadd_n dL_law_140 ?_
        refine g_sld dL_law_141 (by omega) hL31 ?_
        refine kL_22 dL_law_142 (m1_drop h1 _) (by decide) (Nat.le_of_ble_eq_true rfl) (Nat.le_refl _) (Nat.le_refl _) ?_
        rintro r2 u2 ⟨e2, h1'⟩
        refine g_icmp_eq (tgt := 421) dL_law_145 (by decide) (fun c145 => ?_) (fun c145 => ?_)
        · exact fin _ _ _ _ h0' h1'
        · exact absurd (e1.trans e2.symm) c145
      · refine g_tabIn (off := 118) (tgt := 150) dL_law_32 (by decide) (by decide) (by decide) (by decide) ?_
        refine g_al1 dL_law_150 ?_
        refine g_al0 dL_law_151 ?_
        refine g_il3 dL_law_152 ?_
        refine g_iconst (v := nI 1) dL_law_153 rfl ?_
        refine g_iadd_n dL_law_154 ?_
        refine g_sld dL_law_155 (by omega) hL31 ?_
        refine g_al0 dL_law_156 ?_
        refine g_il3 dL_law_157 ?_
        refine g_iconst (v := nI 2) dL_law_158 rfl ?_
        refine g_iadd_n dL_law_159 ?_
        refine g_sld dL_law_160 (by omega) hL31 ?_
        refine g_al0 dL_law_161 ?_
        refine g_il3 dL_law_162 ?_
        refine g_iconst (v := nI 3) dL_law_163 rfl ?_
        refine g_iadd_n dL_law_164 ?_
        refine g_sld dL_law_165 (by omega) hL31 ?_
        refine kL_23 dL_law_166 (m0_covers h0 _ _ _) (by decide) (Nat.le_of_ble_eq_true rfl) (Nat.le_refl _) (Nat.le_refl _) ?_
        rintro r1 u1 ⟨e1, h0'⟩
        refine g_al2 dL_law_169 ?_
        refine g_al0 dL_law_170 ?_
        refine g_il3 dL_law_171 ?_
        refine g_iconst (v := nI 1) dL_law_172 rfl ?_
        refine g_iadd_n dL_law_173 ?_
        refine g_sld dL_law_174 (by omega) hL31 ?_
        refine g_al0 dL_law_175 ?_
        refine g_il3 dL_law_176 ?_
        refine g_iconst (v := nI 2) dL_law_177 rfl ?_
        refine g_iadd_n dL_law_178 ?_
        refine g_sld dL_law_179 (by omega) hL31 ?_
        refine g_al0 dL_law_180 ?_
        refine g_il3 dL_law_181 ?_
        refine g_iconst (v := nI 3) dL_law_182 rfl ?_
        refine g_iadd_n dL_law_183 ?_
        refine g_sld dL_law_184 (by omega) hL31 ?_
        refine kL_27 dL_law_185 (m1_covers h1 _ _ _) (by decide) (Nat.le_of_ble_eq_true rfl) (Nat.le_refl _) (Nat.le_refl _) ?_
        rintro r2 u2 ⟨e2, h1'⟩
        refine g_icmp_eq (tgt := 421) dL_law_188 (by decide) (fun c188 => ?_) (fun c188 => ?_)
        · exact fin _ _ _ _ h0' h1'
        · exact absurd (e1.trans e2.symm) c188
      · refine g_tabIn (off := 161) (tgt := 193) dL_law_32 (by decide) (by decide) (by decide) (by decide) ?_
        refine g_al1 dL_law_193 ?_
        refine g_al0 dL_law_194 ?_
        refine g_il3 dL_law_195 ?_
        refine g_iconst (v := nI 1) dL_law_196 rfl ?_
        refine g_iadd_n dL_law_197 ?_
        refine g_sld dL_law_198 (by omega) hL31 ?_
        refine g_al0 dL_law_199 ?_
        refine g_il3 dL_law_200 ?_
        refine g_iconst (v := nI 2) dL_law_201 rfl ?_
        refine g_iadd_n dL_law_202 ?_
        refine g_sld dL_law_203 (by omega) hL31 ?_
        refine g_al0 dL_law_204 ?_
        refine g_il3 dL_law_205 ?_
        refine g_iconst (v := nI 3) dL_law_206 rfl ?_
        refine g_iadd_n dL_law_207 ?_
        refine g_sld dL_law_208 (by omega) hL31 ?_
        refine kL_28 dL_law_209 (m0_area h0 _ _ _) (by decide) (Nat.le_of_ble_eq_true rfl) (Nat.le_refl _) (Nat.le_refl _) ?_
        rintro r1 u1 ⟨e1, h0'⟩
        refine g_al2 dL_law_212 ?_
        refine g_al0 dL_law_213 ?_
        refine g_il3 dL_law_214 ?_
        refine g_iconst (v := nI 1) dL_law_215 rfl ?_
        refine g_iadd_n dL_law_216 ?_
        refine g_sld dL_law_217 (by omega) hL31 ?_
        refine g_al0 dL_law_218 ?_
        refine g_il3 dL_law_219 ?_
        refine g_iconst (v := nI 2) dL_law_220 rfl ?_
        refine g_iadd_n dL_law_221 ?_
        refine g_sld dL_law_222 (by omega) hL31 ?_
        refine g_al0 dL_law_223 ?_
        refine g_il3 dL_law_224 ?_
        refine g_iconst (v := nI 3) dL_law_225 rfl ?_
        refine g_iadd_n dL_law_226 ?_
        refine g_sld dL_law_227 (by omega) hL31 ?_
        refine kL_31 dL_law_228 (m1_area h1 _ _ _) (by decide) (Nat.le_of_ble_eq_true rfl) (Nat.le_refl _) (Nat.le_refl _) ?_
        rintro r2 u2 ⟨e2, h1'⟩
        refine g_icmp_eq (tgt := 421) dL_law_231 (by decide) (fun c231 => ?_) (fun c231 => ?_)
        · exact fin _ _ _ _ h0' h1'
        · exact absurd (e1.trans e2.symm) c231
      · refine g_tabIn (off := 204) (tgt := 236) dL_law_32 (by decide) (by decide) (by decide) (by decide) ?_
        refine g_al1 dL_law_236 ?_
        refine g_al0 dL_law_237 ?_
        refine g_il3 dL_law_238 ?_
        refine g_iconst (v := nI 1) dL_law_239 rfl ?_
        refine g_iadd_n dL_law_240 ?_
        refine g_sld dL_law_241 (by omega) hL31 ?_
        refine g_al0 dL_law_242 ?_
        refine g_il3 dL_law_243 ?_
        refine g_iconst (v := nI 2) dL_law_244 rfl ?_
        refine g_iadd_n dL_law_245 ?_
        refine g_sld dL_law_246 (by omega) hL31 ?_
        refine g_al0 dL_law_247 ?_
        refine g_il3 dL_law_248 ?_
        refine g_iconst (v := nI 3) dL_law_249 rfl ?_
        refine g_iadd_n dL_law_250 ?_
        refine g_sld dL_law_251 (by omega) hL31 ?_
        refine kL_32 dL_law_252 (m0_outline h0 _ _ _) (by decide) (Nat.le_of_ble_eq_true rfl) (Nat.le_refl _) (Nat.le_refl _) ?_
        rintro r1 u1 ⟨e1, h0'⟩
        refine g_al2 dL_law_255 ?_
        refine g_al0 dL_law_256 ?_
        refine g_il3 dL_law_257 ?_
        refine g_iconst (v := nI 1) dL_law_258 rfl ?_
        refine g_iadd_n dL_law_259 ?_
        refine g_sld dL_law_260 (by omega) hL31 ?_
        refine g_al0 dL_law_261 ?_
        refine g_il3 dL_law_262 ?_
        refine g_iconst (v := nI 2) dL_law_263 rfl ?_
        refine g_iadd_n dL_law_264 ?_
        refine g_sld dL_law_265 (by omega) hL31 ?_
        refine g_al0 dL_law_266 ?_
        refine g_il3 dL_law_267 ?_
        refine g_iconst (v := nI 3) dL_law_268 rfl ?_
        refine g_iadd_n dL_law_269 ?_
        refine g_sld dL_law_270 (by omega) hL31 ?_
        refine kL_35 dL_law_271 (m1_outline h1 _ _ _) (by decide) (Nat.le_of_ble_eq_true rfl) (Nat.le_refl _) (Nat.le_refl _) ?_
        rintro r2 u2 ⟨e2, h1'⟩
        refine g_icmp_eq (tgt := 421) dL_law_274 (by decide) (fun c274 => ?_) (fun c274 => ?_)
        · exact fin _ _ _ _ h0' h1'
        · exact absurd (e1.trans e2.symm) c274
      · refine g_tabIn (off := 247) (tgt := 279) dL_law_32 (by decide) (by decide) (by decide) (by decide) ?_
        refine g_al1 dL_law_279 ?_
        refine g_al0 dL_law_280 ?_
        refine g_il3 dL_law_281 ?_
        refine g_iconst (v := nI 1) dL_law_282 rfl ?_
        refine g_iadd_n dL_law_283 ?_
        refine g_sld dL_law_284 (by omega) hL31 ?_
        refine g_al0 dL_law_285 ?_
        refine g_il3 dL_law_286 ?_
        refine g_iconst (v := nI 2) dL_law_287 rfl ?_
        refine g_iadd_n dL_law_288 ?_
        refine g_sld dL_law_289 (by omega) hL31 ?_
        refine g_al0 dL_law_290 ?_
        refine g_il3 dL_law_291 ?_
        refine g_iconst (v := nI 3) dL_law_292 rfl ?_
        refine g_iadd_n dL_law_293 ?_
        refine g_sld dL_law_294 (by omega) hL31 ?_
        refine kL_36 dL_law_295 (m0_corners h0 _ _ _) (by decide) (Nat.le_of_ble_eq_true rfl) (Nat.le_refl _) (Nat.le_refl _) ?_
        rintro r1 u1 ⟨e1, h0'⟩
        refine g_al2 dL_law_298 ?_
        refine g_al0 dL_law_299 ?_
        refine g_il3 dL_law_300 ?_
        refine g_iconst (v := nI 1) dL_law_301 rfl ?_
        refine g_iadd_n dL_law_302 ?_
        refine g_sld dL_law_303 (by omega) hL31 ?_
        refine g_al0 dL_law_304 ?_
        refine g_il3 dL_law_305 ?_
        refine g_iconst (v := nI 2) dL_law_306 rfl ?_
        refine g_iadd_n dL_law_307 ?_
        refine g_sld dL_law_308 (by omega) hL31 ?_
        refine g_al0 dL_law_309 ?_
        refine g_il3 dL_law_310 ?_
        refine g_iconst (v := nI 3) dL_law_311 rfl ?_
        refine g_iadd_n dL_law_312 ?_
        refine g_sld dL_law_313 (by omega) hL31 ?_
        refine kL_39 dL_law_314 (m1_corners h1 _ _ _) (by decide) (Nat.le_of_ble_eq_true rfl) (Nat.le_refl _) (Nat.le_refl _) ?_
        rintro r2 u2 ⟨e2, h1'⟩
        refine g_icmp_eq (tgt := 421) dL_law_317 (by decide) (fun c317 => ?_) (fun c317 => ?_)
        · exact fin _ _ _ _ h0' h1'
        · exact absurd (e1.trans e2.symm) c317
      · refine g_tabIn (off := 290) (tgt := 322) dL_law_32 (by decide) (by decide) (by decide) (by decide) ?_
        refine g_al1 dL_law_322 ?_
        refine g_al0 dL_law_323 ?_
        refine g_il3 dL_law_324 ?_
        refine g_iconst (v := nI 1) dL_law_325 rfl ?_
        refine g_iadd_n dL_law_326 ?_
        refine g_sld dL_law_327 (by omega) hL31 ?_
        refine g_al0 dL_law_328 ?_
        refine g_il3 dL_law_329 ?_
        refine g_iconst (v := nI 2) dL_law_330 rfl ?_
        refine g_iadd_n dL_law_331 ?_
        refine g_sld dL_law_332 (by omega) hL31 ?_
        refine kL_40 dL_law_333 (m0_thin h0 _ _) (by decide) (Nat.le_of_ble_eq_true rfl) (Nat.le_refl _) (Nat.le_refl _) ?_
        rintro r1 u1 ⟨e1, h0'⟩
        refine g_al2 dL_law_336 ?_
        refine g_al0 dL_law_337 ?_
        refine g_il3 dL_law_338 ?_
        refine g_iconst (v := nI 1) dL_law_339 rfl ?_
        refine g_iadd_n dL_law_340 ?_
        refine g_sld dL_law_341 (by omega) hL31 ?_
        refine g_al0 dL_law_342 ?_
        refine g_il3 dL_law_343 ?_
        refine g_iconst (v := nI 2) dL_law_344 rfl ?_
        refine g_iadd_n dL_law_345 ?_
        refine g_sld dL_law_346 (by omega) hL31 ?_
        refine kL_44 dL_law_347 (m1_thin h1 _ _) (by decide) (Nat.le_of_ble_eq_true rfl) (Nat.le_refl _) (Nat.le_refl _) ?_
        rintro r2 u2 ⟨e2, h1'⟩
        refine g_icmp_eq (tgt := 421) dL_law_350 (by decide) (fun c350 => ?_) (fun c350 => ?_)
        · exact fin _ _ _ _ h0' h1'
        · exact absurd (e1.trans e2.symm) c350
      · refine g_tabIn (off := 323) (tgt := 355) dL_law_32 (by decide) (by decide) (by decide) (by decide) ?_
        refine g_al1 dL_law_355 ?_
        refine g_al0 dL_law_356 ?_
        refine g_il3 dL_law_357 ?_
        refine g_iconst (v := nI 1) dL_law_358 rfl ?_
        refine g_iadd_n dL_law_359 ?_
        refine g_sld dL_law_360 (by omega) hL31 ?_
        refine g_al0 dL_law_361 ?_
        refine g_il3 dL_law_362 ?_
        refine g_iconst (v := nI 2) dL_law_363 rfl ?_
        refine g_iadd_n dL_law_364 ?_
        refine g_sld dL_law_365 (by omega) hL31 ?_
        refine kL_45 dL_law_366 (m0_gaps h0 _ _) (by decide) (Nat.le_of_ble_eq_true rfl) (Nat.le_refl _) (Nat.le_refl _) ?_
        rintro r1 u1 ⟨e1, h0'⟩
        refine g_al2 dL_law_369 ?_
        refine g_al0 dL_law_370 ?_
        refine g_il3 dL_law_371 ?_
        refine g_iconst (v := nI 1) dL_law_372 rfl ?_
        refine g_iadd_n dL_law_373 ?_
        refine g_sld dL_law_374 (by omega) hL31 ?_
        refine g_al0 dL_law_375 ?_
        refine g_il3 dL_law_376 ?_
        refine g_iconst (v := nI 2) dL_law_377 rfl ?_
        refine g_iadd_n dL_law_378 ?_
        refine g_sld dL_law_379 (by omega) hL31 ?_
        refine kL_48 dL_law_380 (m1_gaps h1 _ _) (by decide) (Nat.le_of_ble_eq_true rfl) (Nat.le_refl _) (Nat.le_refl _) ?_
        rintro r2 u2 ⟨e2, h1'⟩
        refine g_icmp_eq (tgt := 421) dL_law_383 (by decide) (fun c383 => ?_) (fun c383 => ?_)
        · exact fin _ _ _ _ h0' h1'
        · exact absurd (e1.trans e2.symm) c383
      · refine g_tabIn (off := 356) (tgt := 388) dL_law_32 (by decide) (by decide) (by decide) (by decide) ?_
        refine g_al1 dL_law_388 ?_
        refine g_al0 dL_law_389 ?_
        refine g_il3 dL_law_390 ?_
        refine g_iconst (v := nI 1) dL_law_391 rfl ?_
        refine g_iadd_n dL_law_392 ?_
        refine g_sld dL_law_393 (by omega) hL31 ?_
        refine g_al0 dL_law_394 ?_
        refine g_il3 dL_law_395 ?_
        refine g_iconst (v := nI 2) dL_law_396 rfl ?_
        refine g_iadd_n dL_law_397 ?_
        refine g_sld dL_law_398 (by omega) hL31 ?_
        refine kL_49 dL_law_399 (m0_enclosure h0 _ _) (by decide) (Nat.le_of_ble_eq_true rfl) (Nat.le_refl _) (Nat.le_refl _) ?_
        rintro r1 u1 ⟨e1, h0'⟩
        refine g_al2 dL_law_402 ?_
        refine g_al0 dL_law_403 ?_
        refine g_il3 dL_law_404 ?_
        refine g_iconst (v := nI 1) dL_law_405 rfl ?_
        refine g_iadd_n dL_law_406 ?_
        refine g_sld dL_law_407 (by omega) hL31 ?_
        refine g_al0 dL_law_408 ?_
        refine g_il3 dL_law_409 ?_
        refine g_iconst (v := nI 2) dL_law_410 rfl ?_
        refine g_iadd_n dL_law_411 ?_
        refine g_sld dL_law_412 (by omega) hL31 ?_
        refine kL_52 dL_law_413 (m1_enclosure h1 _ _) (by decide) (Nat.le_of_ble_eq_true rfl) (Nat.le_refl _) (Nat.le_refl _) ?_
        rintro r2 u2 ⟨e2, h1'⟩
        refine g_icmp_eq (tgt := 421) dL_law_416 (by decide) (fun c416 => ?_) (fun c416 => ?_)
        · exact fin _ _ _ _ h0' h1'
        · exact absurd (e1.trans e2.symm) c416
      · refine g_tabOut (tgt := 421) dL_law_32 (Or.inr (by rw [nI_toInt (by omega)]; omega)) (by decide) ?_
        exact fin c q σ τ h0 h1
end LAW
set_option maxHeartbeats 4000000 in
theorem law_all {l : Launch} {D : va_G} {b L : Nat} {xs : Nat → Int32} (hL : L ≤ 256) : G l room_1 0 0 cL_law 4 R_law D [] (gL b L xs) [] 0 [some (.ref b), none, none, none] [] := by
  refine g_new (C := RX0) (T := TX0) (N := 9) (ci := 0) (fs := [.null, .null, .null, .null, .int 0, .null, .null, .null, .null]) in_X0 tyX0_ok q24 q25 q22 rfl (fun j hj => by rcases (show j = 0 ∨ j = 1 ∨ j = 2 ∨ j = 3 ∨ j = 4 ∨ j = 5 ∨ j = 6 ∨ j = 7 ∨ j = 8 by omega) with rfl | rfl | rfl | rfl | rfl | rfl | rfl | rfl | rfl <;> rfl) (Nat.le_of_ble_eq_true rfl) (Nat.le_of_ble_eq_true rfl) dL_law_0 (fun q0 => ?_)
  refine g_ws (ws' := [] ++ e0 q0) rfl ?_
  refine g_dup dL_law_3 rfl ?_
  refine g_ctor (mI_0 q0) q28 q22 q26 q27 rfl (by decide +kernel) ⟨Nat.le_of_ble_eq_true rfl, Nat.le_of_ble_eq_true rfl⟩ (Nat.le_of_ble_eq_true rfl) (Nat.le_of_ble_eq_true rfl) (Nat.le_of_ble_eq_true rfl) dL_law_4 (fun u0 hu0 => ?_)
  obtain ⟨ad0, kd0⟩ := u0
  have hu0 : ad0 0 = q0 := hu0
  subst hu0
  refine g_as1 dL_law_7 ?_
  refine g_new (C := RX1) (T := TX1) (N := 6) (ci := 1) (fs := [.null, .null, .null, .null, .null, .null]) in_X1 tyX1_ok q152 q153 q23 rfl (fun j hj => by rcases (show j = 0 ∨ j = 1 ∨ j = 2 ∨ j = 3 ∨ j = 4 ∨ j = 5 by omega) with rfl | rfl | rfl | rfl | rfl | rfl <;> rfl) (Nat.le_of_ble_eq_true rfl) (Nat.le_of_ble_eq_true rfl) dL_law_8 (fun q1 => ?_)
  refine g_ws (ws' := w0 ad0 kd0 s0 ++ e1 q1) rfl ?_
  refine g_dup dL_law_11 rfl ?_
  refine g_ctor (mI_1 q1) q156 q23 q154 q155 rfl (by decide +kernel) ⟨Nat.le_of_ble_eq_true rfl, Nat.le_of_ble_eq_true rfl⟩ (Nat.le_of_ble_eq_true rfl) (Nat.le_of_ble_eq_true rfl) (Nat.le_of_ble_eq_true rfl) dL_law_12 (fun u1 hu1 => ?_)
  obtain ⟨ad1, kd1⟩ := u1
  have hu1 : ad1 0 = q1 := hu1
  subst hu1
  refine g_as2 dL_law_15 ?_
  refine g_iconst (v := nI 0) dL_law_16 rfl ?_
  refine g_is3 dL_law_17 ?_
  refine g_widen (k := 600000) (n := 7290000) (Nat.le_of_ble_eq_true rfl) (Nat.le_of_ble_eq_true rfl) ?_
  exact law_loop hL ad0 ad1 kd0 kd1 (L + 5) 0 (by omega) (by omega) (fun _ => 0) (fun _ _ => 0) s0 s0 R0_0 R1_0
/-- from the entry, for every script of at most 256 ints, the law comes to its end with true -/
theorem whole_start {p : Program} {e : Env} {s : State} {m : MethodId} {below : List Frame} {meth : Method} {c : Code} (l : Launch) {b L : Nat} {xs : Nat → Int32} (hL : L ≤ 256) (C0 : lw_At p s m meth c b L xs) : W p l e room_1 s m #[Value.ref b] below meth c s.heap [] 0 0 (lw_Z below #[Value.ref b] s) (entryFrame m ([Value.ref b] : List Value).toArray 4) := by
  obtain ⟨hx, hb, hr, hml, hown, hts0, hX, hbl, hlocks, hgv⟩ := C0
  have hts : ∀ w ∈ lw_all, w.before #[Value.ref b] s = true := fun w h => hts0 w (lw_all_tbl h)
  obtain ⟨c0_, iS0, hKn0⟩ := u_known (C := RX0) (T := TX0) (N := 9) (n := 9) hts0 (fun w h => lw_all_tbl (in_X0 w h)) (hts0 _ (lw_all_tbl q25))
  obtain ⟨c1_, iS1, hKn1⟩ := u_known (C := RX1) (T := TX1) (N := 6) (n := 6) hts0 (fun w h => lw_all_tbl (in_X1 w h)) (hts0 _ (lw_all_tbl q153))
  obtain ⟨dC, dI, hKc⟩ : ∃ (dC : Nat → ClassId) (dI : Nat → Nat → Nat), ∀ (k : Nat) (q : vw_C), vwCl[k]? = some q → u_Kn s q.1 q.2.1 q.2.2 (dC k) (dI k) := by
    refine ⟨fun k => if k = 0 then c0_ else c1_, fun k => if k = 0 then iS0 else iS1, ?_⟩
    intro k q hq
    match k, hq with
    | 0, hq => cases hq; exact hKn0
    | 1, hq => cases hq; exact hKn1
    | k + 2, hq => simp [vwCl] at hq
  have hK : va_K (dC, dI) vwCl [] s := ⟨hKc, fun k q h => by simp at h⟩
  have hP : va_P (dC, dI) vwCl [] s.heap := fun k q h => by simp at h
  have hD : va_D (fun q : Nat => s.heap.size ≤ q) [] := ⟨fun i j p q h => by simp at h, fun k q h => by simp at h⟩
  have hl0 := lv_entry ([.ref b] : List Value) (n := 4) (Nat.le_of_ble_eq_true rfl)
  rw [lg_entry_eq]
  exact law_all (D := (dC, dI)) (xs := xs) hL p e s m #[Value.ref b] below meth c _ (fun q : Nat => s.heap.size ≤ q) s.heap [] _ ⟨hx, hb, hml, hown, hts, hlocks, hK, fun q h => h, rfl, hr, hX, hbl, rfl, rfl⟩ hP hD va_S.rf (lvl_entry (av := [.ref b]) hl0 (by simp [Value.category]) (Nat.le_of_ble_eq_true rfl))
end
section
set_option maxHeartbeats 4000000 in
theorem lw_walk (l : Launch) (b : Addr) (xs : List Int32) : MetFree l x (headSpec (Jvm.Cond.code x code maxLocals ret :: tables_1) room_1) (lw_P b xs) (fun _ _ _ _ _ => True) lw_Q := by
  refine MetFree.of_bodyS (code := code) (maxLocals := maxLocals) (ret := ret) (by decide) ?_ ?_
  · intro args s m h hn
    obtain ⟨meth, c, h1, h2, h3, h4, h5, h6, -, -⟩ := Cond.code_spec hn (atoms_spec (ws := Jvm.Cond.code x code maxLocals ret :: tables_1) h _ List.mem_cons_self)
    exact ⟨meth, c, h1, h2, h3, h4, h5, h6⟩
  · intro p e s m args below meth c s₁ B hml0 hP _
    obtain ⟨rfl, hx, hbd, hgv⟩ := hP
    obtain ⟨scr, harrAt, hlist, hof, hsmall⟩ := hx
    obtain ⟨hcb, hkn, -, -⟩ := State.arrayAt?_spec harrAt
    have hown : s.vm.findClass R_law = some m.cls := findClass_of_methodNamed B.named
    have hts0 : ∀ c ∈ (Jvm.Cond.code x code maxLocals ret :: tables_1), c.before #[Value.ref b] s = true := atoms_spec (ws := Jvm.Cond.code x code maxLocals ret :: tables_1) B.pre
    have hts : ∀ w ∈ lw_tbl, w.before #[Value.ref b] s = true := k2_hts_sels lw_privs (fun w hw => hts0 w (List.mem_cons_of_mem _ hw)) lw_privs_ok
    have hml : c.maxLocals = 4 := B.maxLocals_eq (hts0 _ List.mem_cons_self)
    have X₀ : Stand p l e room_1 s m #[Value.ref b] below meth c s₁ [] 0 0 := Stand.of_body B
    have hh0 : s₁.heap = s.heap := by rw [B.state]; rfl
    have hsz : scr.slots.size = xs.length := by rw [← Array.length_toList, hlist, List.length_map]
    have hval : ∀ j : Nat, j < xs.length → scr.slots[j]? = some (.int (xs.getD j 0)) := fun j hj => by
      rw [← Array.getElem?_toList, hlist]
      simp [hj]
    have hbl : b < s.heap.size := (Array.getElem?_eq_some_iff.mp hcb).1
    have hX : va_X b xs.length (fun j => xs.getD j 0) s s.heap := ⟨scr, hcb, hof, hkn, hsz, hval⟩
    have K : W p l e room_1 s m #[Value.ref b] below meth c s₁.heap [] 0 0 (lw_Z below #[Value.ref b] s) (entryFrame m ([Value.ref b] : List Value).toArray 4) := by
      rw [hh0]
      exact whole_start l hbd ⟨B.exec, B.bytes, B.returns, hml, hown, hts, hX, hbl, B.notSynchronized, hgv⟩
    obtain ⟨t, a1, o, b1, b2, b3⟩ := K s₁ rfl X₀
    exact ⟨t, o, a1, b1, b2, b3⟩
theorem lw_pre_spec {args : Array Value} {s : State} (h : (Jvm.Cond.and given_1 narrow_1).before args s = true) (hr : rest_1_c.before args s = true) : ∃ (b : Addr) (xs : List Int32), lw_P b xs args s := by
  have hs := flat_of_before _ h
  have hq := flat_of_before _ hr
  have hc : (Cond.count 1).before args s = true := hs _ (by decide +kernel)
  have harr : (Cond.arrayOf (.arg 0) .int).before args s = true := hs _ (by decide +kernel)
  have hle : (Cond.le (.length (.arg 0)) (.int 256)).before args s = true := hs _ (by decide +kernel)
  have hlen : (Cond.isInt (.length (.arg 0))).before args s = true := hq _ (by decide +kernel)
  have hall : (Cond.all (.arg 0) (.isInt (.elem (.arg 0) (.index 0)))).before args s = true := hq _ (by decide +kernel)
  obtain ⟨b, xs, hb, hx⟩ := State.ints_of_pre rfl harr hlen hall
  have hsm : xs.length < 2 ^ 31 := hx.choose_spec.2.2.2
  have hev : (Term.length (.arg 0)).eval args s none [] s = some (.int xs.length.toInt32) := hx.length_eval hb
  have hv := Cond.le_ints hev (show (Term.int 256).eval args s none [] s = some (.int 256) from rfl)
  have hd : xs.length.toInt32 ≤ 256 := by
    simpa [Cond.before, Cond.holds, hv] using hle
  have hN : xs.length ≤ 256 := (Int32.ofNat_le_ofNat hsm (by decide)).mp (show Int32.ofNat xs.length ≤ Int32.ofNat 256 from hd)
  exact ⟨b, xs, Cond.one_arg hc (show args[0]? = some (.ref b) from hb), hx, hN, h⟩
theorem lw_comes (l : Launch) : Comes l x (Jvm.Cond.code x code maxLocals ret :: tables_1) room_1 (fun tb e args s => Calls_1 tb e args s ∧ rest_1 tb e args s ∧ Pre_1 tb e args s)
    (fun _ _ args s o t => lw_Q args s o t) := by
  intro p e ha hc hk s m args below hf hfit hheap happ hpre
  obtain ⟨b, xs, hP⟩ := lw_pre_spec hpre.2.2 hpre.2.1
  obtain ⟨k, o, h1, h2, h3, hQ⟩ := lw_walk l b xs p e ha hc hk s m args below hf ((Spec.applies_iff_loose hf).mp happ).1 hP trivial
  exact ⟨k, o, h1, h2, h3, hQ⟩
theorem lw_frame {s t : State} {o : Outcome} {args : Array Value} (h : Framed s o t [] 600000 7290000) :
    Framed s o t (fieldLocs frame_1_writes args s ++ arrayLocs frame_1_arrays args s ++ staticLocs frame_1_statics s) 600000 7290000 := h
theorem lw_limb (L : Cond) (hL : ∀ (args : Array Value) (s t : State), L.after args s (.returned (some (.int 1))) t = true) :
    ArmFor flags0 classFile x code maxLocals ret World_1 tables_1 room_1 Calls_1 rest_1 Pre_1
      (fun tb e a s o t => postC L tb e a s o t ∧ Framed s o t (fieldLocs frame_1_writes a s ++ arrayLocs frame_1_arrays a s ++ staticLocs frame_1_statics s) 600000 7290000) := by
  intro l _ _ _ p e ha hc hk s m args below hf hfit hheap happ hpre
  obtain ⟨k, o, h1, h2, h3, rfl, hF⟩ := lw_comes l p e ha hc hk s m args below hf hfit hheap happ hpre
  exact ⟨k, _, h1, h2, h3, hL args s _, lw_frame hF⟩
theorem i_vc : Claimed_1_1 ∧ Claimed_1_2 := ⟨lw_limb limb_1_1 (fun args s t => by simp [limb_1_1, Cond.after, Cond.holds, Cond.value]), lw_limb limb_1_2 (fun args s t => Cond.after_iff.mpr (by
  first | (rw [show limb_1_2 = Cond.eq .result (.int 1) from rfl, Cond.eq_ints (x := 1) (y := 1) rfl rfl]; simp; done) | (simp [limb_1_2, Cond.value, Term.eval]; done)))⟩
end
